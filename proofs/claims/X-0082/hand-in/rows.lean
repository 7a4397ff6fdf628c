section
/-! rows of kit/rows/PURE-ROWS (starting text) that this claim uses -/
theorem pk_us {f : Nat → Int32} {k : Nat} {x : Int32} : upd f k x k = x := if_pos rfl
theorem pk_un {f : Nat → Int32} {k j : Nat} {x : Int32} (h : j ≠ k) : upd f k x j = f j := if_neg h
theorem pk_sub {a b : Nat} (h : b ≤ a) : nI a - nI b = nI (a - b) := by
  obtain ⟨c, rfl⟩ : ∃ c, a = c + b := ⟨a - b, by omega⟩
  rw [← nI_add, Int32.add_sub_cancel, Nat.add_sub_cancel]
theorem pk_m1 (n : Nat) : nI (n + 1) + (-1) = nI n := by
  rw [← nI_1, Int32.add_assoc, show (1 : Int32) + (-1) = 0 from rfl, Int32.add_zero]
theorem pk_mul (a b : Nat) : nI a * nI b = nI (a * b) := (Int32.ofNat_mul a b).symm
theorem pk_div {a d : Nat} (ha : a < 2 ^ 31) (h0 : 0 < d) (hd : d < 2 ^ 31) : nI a / nI d = nI (a / d) := by
  apply Int32.toInt_inj.mp
  rw [lg_idiv_nonneg (by rw [nI_toInt ha]; omega) (by rw [nI_toInt hd]; omega), nI_toInt ha, nI_toInt hd, nI_toInt (Nat.lt_of_le_of_lt (Nat.div_le_self a d) ha)]
  first | rfl | exact (Int.natCast_ediv _ _).symm
theorem pk_rem {a d : Nat} (ha : a < 2 ^ 31) (h0 : 0 < d) (hd : d < 2 ^ 31) : nI a - nI a / nI d * nI d = nI (a % d) := by
  rw [pk_div ha h0 hd, pk_mul, pk_sub (Nat.div_mul_le_self a d)]
  exact congrArg nI (by have := Nat.div_add_mod' a d; omega)
theorem pk_sub_toInt {a b : Nat} (ha : a < 2 ^ 30) (hb : b < 2 ^ 30) : (nI a - nI b).toInt = (a : Int) - b := by
  rw [Int32.toInt_sub, nI_toInt (by omega), nI_toInt (by omega)]
  exact Int.bmod_eq_of_le (by omega) (by omega)
theorem pk_sneg {a b : Nat} (hb : b < 2 ^ 30) (h : a < b) : nI a - nI b < 0 := by
  rw [Int32.lt_iff_toInt_lt, pk_sub_toInt (by omega) hb, show (0 : Int32).toInt = 0 from by decide]
  omega
theorem pk_ix (x : Int32) {n : Nat} (hn : n < 2 ^ 31) : x < 0 ∨ nI n ≤ x ∨ ∃ j : Nat, j < n ∧ x = nI j := by
  by_cases h : x < 0
  · exact Or.inl h
  · obtain ⟨j, hj, rfl⟩ := nI_of h
    by_cases h2 : j < n
    · exact Or.inr (Or.inr ⟨j, h2, rfl⟩)
    · exact Or.inr (Or.inl (nI_le (by omega) hj))
theorem pk_le {x y : Int32} {A B : Prop} (a b : Nat) (f : a ≤ b → A) (g : b < a → B) (hx : x = nI a := by rfl) (hy : y = nI b := by rfl) (ha : a < 2 ^ 31 := by omega) (hb : b < 2 ^ 31 := by omega) : (x ≤ y → A) ∧ (¬ x ≤ y → B) := by
  subst hx hy
  rw [nI_leI ha hb]
  exact ⟨f, fun z => g (by omega)⟩
theorem pk_lt {x y : Int32} {A B : Prop} (a b : Nat) (f : a < b → A) (g : b ≤ a → B) (hx : x = nI a := by rfl) (hy : y = nI b := by rfl) (ha : a < 2 ^ 31 := by omega) (hb : b < 2 ^ 31 := by omega) : (x < y → A) ∧ (¬ x < y → B) := by
  subst hx hy
  rw [nI_ltI ha hb]
  exact ⟨f, fun z => g (by omega)⟩
theorem pk_eq {x y : Int32} {A B : Prop} (a b : Nat) (f : a = b → A) (g : a ≠ b → B) (hx : x = nI a := by rfl) (hy : y = nI b := by rfl) (ha : a < 2 ^ 31 := by omega) (hb : b < 2 ^ 31 := by omega) : (x = y → A) ∧ (¬ x = y → B) := by
  subst hx hy
  rw [nI_eq ha hb]
  exact ⟨f, g⟩
theorem pk_in {x : Int32} (n N : Nat) (h : n < N) (hx : x = nI n := by rfl) (hN : N < 2 ^ 31 := by omega) : vp_in x N := by
  subst hx
  exact vp_in_nI h hN
theorem pk_cl {x : Int32} (n : Nat) (hx : x = nI n := by rfl) (h : n < 2 ^ 31 := by omega) : x.toNatClampNeg = n := by
  subst hx
  exact nI_clamp h
theorem pk_tn {n : Nat} (h : n < 2 ^ 32) : (nI n).toBitVec.toNat = n := Nat.mod_eq_of_lt h
theorem pk_and (x : Int32) {m : Int32} (k : Nat) (hm : m.toBitVec.toNat = 2 ^ k - 1) : x &&& m = nI (x.toBitVec.toNat % 2 ^ k) := by
  apply Int32.toBitVec_inj.mp
  apply BitVec.eq_of_toNat_eq
  rw [Int32.toBitVec_and, BitVec.toNat_and, hm, Nat.and_two_pow_sub_one_eq_mod]
  show _ = (BitVec.ofNat 32 _).toNat
  rw [BitVec.toNat_ofNat]
  exact (Nat.mod_eq_of_lt (Nat.lt_of_le_of_lt (Nat.mod_le _ _) x.toBitVec.isLt)).symm
theorem pk_andN {n : Nat} (h : n < 2 ^ 32) {m : Int32} (k : Nat) (hm : m.toBitVec.toNat = 2 ^ k - 1) : nI n &&& m = nI (n % 2 ^ k) := by
  rw [pk_and _ k hm, pk_tn h]
theorem pk_andE (x : Int32) {m : Int32} (k : Nat) (hm : m.toBitVec.toNat = 2 ^ k - 1) : ∃ j : Nat, j < 2 ^ k ∧ x &&& m = nI j := ⟨_, Nat.mod_lt _ (Nat.two_pow_pos k), pk_and x k hm⟩
theorem pk_andIn (x : Int32) {m : Int32} (k : Nat) (hm : m.toBitVec.toNat = 2 ^ k - 1) (hk : k ≤ 30) : vp_in (x &&& m) (2 ^ k) := by
  obtain ⟨j, hj, e⟩ := pk_andE x k hm
  rw [e]
  exact vp_in_nI hj (Nat.lt_of_le_of_lt (Nat.pow_le_pow_right (by decide) hk) (by decide))
theorem pk_least (P : Nat → Prop) (h : ∃ k, P k) : ∃ k, P k ∧ ∀ j, j < k → ¬ P j := by
  obtain ⟨k, hk⟩ := h
  induction k using Nat.strongRecOn with
  | ind k ih =>
    by_cases e : ∃ j, j < k ∧ P j
    · obtain ⟨j, hj, pj⟩ := e
      exact ih j hj pj
    · exact ⟨k, hk, fun j hj pj => e ⟨j, hj, pj⟩⟩
end
section
/-! codes, small arithmetic, the tests of both sides -/
abbrev bi_I (c : Int32) : Prop := ¬ c < 19 ∧ ¬ 21 < c
abbrev bi_R (c : Int32) : Prop := c = 9 ∨ (¬ c < 14 ∧ ¬ 18 < c)
theorem bi_uself (f : Nat → Int32) (k : Nat) : upd f k (f k) = f := by
  funext j
  unfold upd
  by_cases h : j = k
  · rw [if_pos h, h]
  · rw [if_neg h]
theorem bi_n0 : vp_nar .boolean 0 = 0 := rfl
theorem bi_n1 : vp_nar .boolean 1 = 1 := rfl
theorem bi_p1 {i : Nat} (h : 0 < i) : nI i - 1 = nI (i - 1) := by
  obtain ⟨j, rfl⟩ : ∃ j, i = j + 1 := ⟨i - 1, by omega⟩
  exact nI_pred j
theorem bi_sm1 (x : Int32) : x - 1 = x + (-1) := Int32.sub_eq_add_neg x 1
theorem bi_le0 {n : Nat} (h : n < 2 ^ 31) : (nI n ≤ 0) ↔ n = 0 := by
  have := nI_leI (a := n) (b := 0) h (by omega)
  rw [nI_0] at this
  exact this.trans Nat.le_zero
theorem bi_eq0 {n : Nat} (h : n < 2 ^ 31) : (nI n = 0) ↔ n = 0 := by
  have := nI_eq (a := n) (b := 0) h (by omega)
  rw [nI_0] at this
  exact this
theorem bi_lt0 {n : Nat} (h : n < 2 ^ 31) : (nI n < 0) = False := eq_false (nI_pos h)
theorem bi_0le {n : Nat} (h : n < 2 ^ 31) : ((0 : Int32) ≤ nI n) = True := eq_true (nI_pos' h)
theorem bi_nm1 {n : Nat} (h : n < 2 ^ 31) : (nI n = -1) = False := eq_false (fun e => nI_pos h (by rw [e]; decide))
theorem bi_m1lt : ((-1 : Int32) < 0) = True := by decide
theorem bi_0m1 : ((0 : Int32) ≤ -1) = False := by decide
theorem bi_32le {n : Nat} (h : n < 2 ^ 31) : ((32 : Int32) ≤ nI n) ↔ 32 ≤ n := nI_leI (a := 32) (by omega) h
theorem bi_10 : ((1 : Int32) = 0) = False := by decide
theorem bi_01 : ((0 : Int32) = 1) = False := by decide
/-- an index or none -/
def bi_o : Option Nat → Int32
  | none => -1
  | some n => nI n
theorem bi_oN : bi_o none = -1 := rfl
theorem bi_oS (n : Nat) : bi_o (some n) = nI n := rfl
theorem bi_o_lt {o : Option Nat} {A B : Prop} (h : ∀ n, o = some n → n < 2 ^ 31) (hn : o = none → A) (hs : ∀ n, o = some n → B) : (bi_o o < 0 → A) ∧ (¬ bi_o o < 0 → B) := by
  cases o with
  | none => exact br_t (by decide) (hn rfl)
  | some n => exact br_f (nI_pos (h n rfl)) (hs n rfl)
theorem bi_o_le {o : Option Nat} {A B : Prop} (h : ∀ n, o = some n → n < 2 ^ 31) (hn : o = none → B) (hs : ∀ n, o = some n → A) : (0 ≤ bi_o o → A) ∧ (¬ 0 ≤ bi_o o → B) := by
  cases o with
  | none => exact br_f (by decide) (hn rfl)
  | some n => exact br_t (nI_pos' (h n rfl)) (hs n rfl)
theorem bi_o_inj {o : Option Nat} {n : Nat} (h : ∀ n, o = some n → n < 2 ^ 31) (hn : n < 2 ^ 31) : bi_o o = nI n ↔ o = some n := by
  cases o with
  | none =>
    constructor
    · intro e
      have : ¬ nI n < 0 := nI_pos hn
      rw [← e] at this
      exact absurd (by decide) this
    · intro e; cases e
  | some m =>
    rw [bi_oS, nI_eq (h m rfl) hn]
    constructor
    · intro e; rw [e]
    · intro e; cases e; rfl
section
variable {f_cap f_depth f_size f_paragraph f_lines f_resolved f_top f_overflowIsolates f_overflowEmbeddings f_validIsolates f_seqLen f_seqLevel f_runDir f_sos f_eos f_openCount : Int32} {a_text a_breakAfter a_partner a_level a_type a_prevKept a_nextKept a_implicit a_pair a_valid a_taken a_stackLevel a_stackOverride a_stackIsolate a_seq a_kind a_mate a_openAt a_wasMark a_lineFirst a_lineSlot a_lineLv a_order a_place : Nat → Int32}
theorem bx_isI {post : Int32 → Prop} {c : Int32} (h0 : ¬ bi_I c → post 0) (h1 : bi_I c → post 1) : wpX_isInitiator post (f_cap, f_depth, f_size, f_paragraph, f_lines, f_resolved, f_top, f_overflowIsolates, f_overflowEmbeddings, f_validIsolates, f_seqLen, f_seqLevel, f_runDir, f_sos, f_eos, f_openCount, a_text, a_breakAfter, a_partner, a_level, a_type, a_prevKept, a_nextKept, a_implicit, a_pair, a_valid, a_taken, a_stackLevel, a_stackOverride, a_stackIsolate, a_seq, a_kind, a_mate, a_openAt, a_wasMark, a_lineFirst, a_lineSlot, a_lineLv, a_order, a_place) c :=
  br_c (fun h => h0 (fun z => z.1 h)) (fun h => br_c (fun h2 => h0 (fun z => z.2 h2)) (fun h2 => h1 ⟨h, h2⟩))
theorem bx_ifI {A B : Prop} {c : Int32} (h0 : ¬ bi_I c → A) (h1 : bi_I c → B) : wpX_isInitiator (fun r => (r = 0 → A) ∧ (¬ r = 0 → B)) (f_cap, f_depth, f_size, f_paragraph, f_lines, f_resolved, f_top, f_overflowIsolates, f_overflowEmbeddings, f_validIsolates, f_seqLen, f_seqLevel, f_runDir, f_sos, f_eos, f_openCount, a_text, a_breakAfter, a_partner, a_level, a_type, a_prevKept, a_nextKept, a_implicit, a_pair, a_valid, a_taken, a_stackLevel, a_stackOverride, a_stackIsolate, a_seq, a_kind, a_mate, a_openAt, a_wasMark, a_lineFirst, a_lineSlot, a_lineLv, a_order, a_place) c :=
  bx_isI (fun h => br_t rfl (h0 h)) (fun h => br_f (by decide) (h1 h))
theorem bx_isR {post : Int32 → Prop} {c : Int32} (h0 : ¬ bi_R c → post 0) (h1 : bi_R c → post 1) : wpX_isRemoved post (f_cap, f_depth, f_size, f_paragraph, f_lines, f_resolved, f_top, f_overflowIsolates, f_overflowEmbeddings, f_validIsolates, f_seqLen, f_seqLevel, f_runDir, f_sos, f_eos, f_openCount, a_text, a_breakAfter, a_partner, a_level, a_type, a_prevKept, a_nextKept, a_implicit, a_pair, a_valid, a_taken, a_stackLevel, a_stackOverride, a_stackIsolate, a_seq, a_kind, a_mate, a_openAt, a_wasMark, a_lineFirst, a_lineSlot, a_lineLv, a_order, a_place) c :=
  br_c (fun h => h1 (Or.inl h)) (fun h => br_c (fun h2 => h0 (fun z => z.elim h (fun w => w.1 h2))) (fun h2 => br_c (fun h3 => h0 (fun z => z.elim h (fun w => w.2 h3))) (fun h3 => h1 (Or.inr ⟨h2, h3⟩))))
theorem bx_ifR {A B : Prop} {c : Int32} (h0 : ¬ bi_R c → A) (h1 : bi_R c → B) : wpX_isRemoved (fun r => (r = 0 → A) ∧ (¬ r = 0 → B)) (f_cap, f_depth, f_size, f_paragraph, f_lines, f_resolved, f_top, f_overflowIsolates, f_overflowEmbeddings, f_validIsolates, f_seqLen, f_seqLevel, f_runDir, f_sos, f_eos, f_openCount, a_text, a_breakAfter, a_partner, a_level, a_type, a_prevKept, a_nextKept, a_implicit, a_pair, a_valid, a_taken, a_stackLevel, a_stackOverride, a_stackIsolate, a_seq, a_kind, a_mate, a_openAt, a_wasMark, a_lineFirst, a_lineSlot, a_lineLv, a_order, a_place) c :=
  bx_isR (fun h => br_t rfl (h0 h)) (fun h => br_f (by decide) (h1 h))
end
section
variable {g_cap g_depth g_len g_para g_count g_e g_way g_sos g_eos g_done : Int32} {b_text b_cut b_pair b_res b_level b_over b_type b_first b_seq b_open b_stLevel b_stOver b_stIso : Nat → Int32}
theorem by_isI {post : Int32 → Prop} {c : Int32} (h0 : ¬ bi_I c → post 0) (h1 : bi_I c → post 1) : wpY_initiator post (g_cap, g_depth, g_len, g_para, g_count, g_e, g_way, g_sos, g_eos, g_done, b_text, b_cut, b_pair, b_res, b_level, b_over, b_type, b_first, b_seq, b_open, b_stLevel, b_stOver, b_stIso) c :=
  br_c (fun h => h0 (fun z => z.1 h)) (fun h => br_c (fun h2 => h0 (fun z => z.2 h2)) (fun h2 => h1 ⟨h, h2⟩))
theorem by_ifI {A B : Prop} {c : Int32} (h0 : ¬ bi_I c → A) (h1 : bi_I c → B) : wpY_initiator (fun r => (r = 0 → A) ∧ (¬ r = 0 → B)) (g_cap, g_depth, g_len, g_para, g_count, g_e, g_way, g_sos, g_eos, g_done, b_text, b_cut, b_pair, b_res, b_level, b_over, b_type, b_first, b_seq, b_open, b_stLevel, b_stOver, b_stIso) c :=
  by_isI (fun h => br_t rfl (h0 h)) (fun h => br_f (by decide) (h1 h))
theorem by_isR {post : Int32 → Prop} {c : Int32} (h0 : ¬ bi_R c → post 0) (h1 : bi_R c → post 1) : wpY_removed post (g_cap, g_depth, g_len, g_para, g_count, g_e, g_way, g_sos, g_eos, g_done, b_text, b_cut, b_pair, b_res, b_level, b_over, b_type, b_first, b_seq, b_open, b_stLevel, b_stOver, b_stIso) c :=
  br_c (fun h => h1 (Or.inl h)) (fun h => br_c (fun h2 => h0 (fun z => z.elim h (fun w => w.1 h2))) (fun h2 => br_c (fun h3 => h0 (fun z => z.elim h (fun w => w.2 h3))) (fun h3 => h1 (Or.inr ⟨h2, h3⟩))))
theorem by_ifR {A B : Prop} {c : Int32} (h0 : ¬ bi_R c → A) (h1 : bi_R c → B) : wpY_removed (fun r => (r = 0 → A) ∧ (¬ r = 0 → B)) (g_cap, g_depth, g_len, g_para, g_count, g_e, g_way, g_sos, g_eos, g_done, b_text, b_cut, b_pair, b_res, b_level, b_over, b_type, b_first, b_seq, b_open, b_stLevel, b_stOver, b_stIso) c :=
  by_isR (fun h => br_t rfl (h0 h)) (fun h => br_f (by decide) (h1 h))
end
end
section
/-! lines and slots, plain -/
def bi_ln (K : Nat → Int32) : Nat → Nat
  | 0 => 0
  | i + 1 => bi_ln K i + (if K i = 0 then 0 else 1)
def bi_rc (T : Nat → Int32) : Nat → Nat
  | 0 => 0
  | i + 1 => bi_rc T i + (if bi_R (T i) then 0 else 1)
def bi_fs (K : Nat → Int32) : Nat → Nat → Nat
  | 0, _ => 0
  | i + 1, l => if bi_ln K i < l then i + 1 else bi_fs K i l
def bi_ps (T : Nat → Int32) : Nat → Nat → Nat
  | 0, _ => 0
  | i + 1, s => if bi_rc T i = s ∧ ¬ bi_R (T i) then i else bi_ps T i s
theorem bi_ln_le (K : Nat → Int32) : ∀ i, bi_ln K i ≤ i
  | 0 => Nat.le_refl _
  | i + 1 => by
    have := bi_ln_le K i
    simp only [bi_ln]
    split <;> omega
theorem bi_ln_s (K : Nat → Int32) (i : Nat) : bi_ln K i ≤ bi_ln K (i + 1) ∧ bi_ln K (i + 1) ≤ bi_ln K i + 1 := by
  simp only [bi_ln]
  split <;> omega
theorem bi_ln_mono (K : Nat → Int32) {i j : Nat} (h : i ≤ j) : bi_ln K i ≤ bi_ln K j := by
  induction j with
  | zero => have : i = 0 := by omega
            subst this; exact Nat.le_refl _
  | succ j ih =>
    by_cases e : i = j + 1
    · subst e; exact Nat.le_refl _
    · have := ih (by omega)
      have := (bi_ln_s K j).1
      omega
theorem bi_rc_le (T : Nat → Int32) : ∀ i, bi_rc T i ≤ i
  | 0 => Nat.le_refl _
  | i + 1 => by
    have := bi_rc_le T i
    simp only [bi_rc]
    split <;> omega
theorem bi_rc_R {T : Nat → Int32} {i : Nat} (h : bi_R (T i)) : bi_rc T (i + 1) = bi_rc T i := by
  simp only [bi_rc]; rw [if_pos h]; omega
theorem bi_rc_N {T : Nat → Int32} {i : Nat} (h : ¬ bi_R (T i)) : bi_rc T (i + 1) = bi_rc T i + 1 := by
  simp only [bi_rc]; rw [if_neg h]
theorem bi_rc_mono (T : Nat → Int32) {i j : Nat} (h : i ≤ j) : bi_rc T i ≤ bi_rc T j := by
  induction j with
  | zero => have : i = 0 := by omega
            subst this; exact Nat.le_refl _
  | succ j ih =>
    by_cases e : i = j + 1
    · subst e; exact Nat.le_refl _
    · have := ih (by omega)
      have h2 : bi_rc T j ≤ bi_rc T (j + 1) := by
        by_cases r : bi_R (T j)
        · rw [bi_rc_R r]; omega
        · rw [bi_rc_N r]; omega
      omega
theorem bi_rc_lt {T : Nat → Int32} {i j : Nat} (h : i < j) (hr : ¬ bi_R (T i)) : bi_rc T i < bi_rc T j := by
  have := bi_rc_mono T (i := i + 1) (j := j) (by omega)
  rw [bi_rc_N hr] at this
  omega
theorem bi_fs_spec (K : Nat → Int32) (l : Nat) : ∀ N, bi_fs K N l ≤ N ∧ ∀ i, i < N → (bi_ln K i < l ↔ i < bi_fs K N l)
  | 0 => ⟨Nat.le_refl _, fun i h => by omega⟩
  | N + 1 => by
    obtain ⟨h1, h2⟩ := bi_fs_spec K l N
    simp only [bi_fs]
    by_cases h : bi_ln K N < l
    · rw [if_pos h]
      refine ⟨Nat.le_refl _, fun i hi => ⟨fun _ => hi, fun _ => ?_⟩⟩
      have := bi_ln_mono K (i := i) (j := N) (by omega)
      omega
    · rw [if_neg h]
      refine ⟨by omega, fun i hi => ?_⟩
      by_cases e : i = N
      · subst e
        exact ⟨fun z => absurd z h, fun z => by omega⟩
      · exact h2 i (by omega)
theorem bi_fs_lt {K : Nat → Int32} {N l : Nat} (hN : 0 < N) (hk : K (N - 1) = 0) (hl : l ≤ bi_ln K N) : bi_fs K N l < N := by
  obtain ⟨h1, h2⟩ := bi_fs_spec K l N
  have h3 := h2 (N - 1) (by omega)
  have h4 : bi_ln K N = bi_ln K (N - 1) := by
    obtain ⟨m, rfl⟩ : ∃ m, N = m + 1 := ⟨N - 1, by omega⟩
    show bi_ln K m + _ = bi_ln K m
    rw [if_pos (show K m = 0 from hk), Nat.add_zero]
  omega
theorem bi_fs_ln {K : Nat → Int32} {N l : Nat} (h : bi_fs K N l < N) : bi_ln K (bi_fs K N l) = l := by
  obtain ⟨h1, h2⟩ := bi_fs_spec K l N
  have h3 := h2 _ h
  by_cases z : bi_fs K N l = 0
  · rw [z] at h3 ⊢
    simp only [bi_ln] at *
    omega
  · have h4 := h2 (bi_fs K N l - 1) (by omega)
    have h5 := bi_ln_s K (bi_fs K N l - 1)
    rw [show bi_fs K N l - 1 + 1 = bi_fs K N l by omega] at h5
    omega
theorem bi_fs_end {K : Nat → Int32} {N l : Nat} (h : bi_ln K N < l) : bi_fs K N l = N := by
  obtain ⟨h1, h2⟩ := bi_fs_spec K l N
  by_cases z : N = 0
  · omega
  · have h3 := h2 (N - 1) (by omega)
    have h4 := bi_ln_mono K (i := N - 1) (j := N) (by omega)
    omega
theorem bi_ln_iff {K : Nat → Int32} {N l i : Nat} (hi : i < N) : bi_ln K i = l ↔ bi_fs K N l ≤ i ∧ i < bi_fs K N (l + 1) := by
  have h1 := (bi_fs_spec K l N).2 i hi
  have h2 := (bi_fs_spec K (l + 1) N).2 i hi
  omega
theorem bi_ps_rc {T : Nat → Int32} {i : Nat} (hr : ¬ bi_R (T i)) : ∀ {N : Nat}, i < N → bi_ps T N (bi_rc T i) = i
  | 0, h => by omega
  | N + 1, h => by
    simp only [bi_ps]
    by_cases e : i = N
    · subst e
      rw [if_pos ⟨rfl, hr⟩]
    · have := bi_rc_lt (T := T) (i := i) (j := N) (by omega) hr
      rw [if_neg (fun z => by omega)]
      exact bi_ps_rc hr (by omega)
theorem bi_ps_spec {T : Nat → Int32} {s : Nat} : ∀ {N : Nat}, s < bi_rc T N → bi_ps T N s < N ∧ ¬ bi_R (T (bi_ps T N s)) ∧ bi_rc T (bi_ps T N s) = s
  | 0, h => by simp only [bi_rc] at h; omega
  | N + 1, h => by
    simp only [bi_ps]
    by_cases r : bi_R (T N)
    · rw [bi_rc_R r] at h
      rw [if_neg (fun z => z.2 r)]
      have := bi_ps_spec h
      exact ⟨by omega, this.2⟩
    · rw [bi_rc_N r] at h
      by_cases e : bi_rc T N = s
      · rw [if_pos ⟨e, r⟩]
        exact ⟨by omega, r, e⟩
      · rw [if_neg (fun z => e z.1)]
        have := bi_ps_spec (N := N) (s := s) (T := T) (by omega)
        exact ⟨by omega, this.2⟩
/-! line levels -/
abbrev bi_bl (c : Int32) : Prop := c = 12 ∨ (¬ c < 19 ∧ c ≤ 22) ∨ bi_R c
def bi_trf (T K : Nat → Int32) (N : Nat) : Nat → Bool
  | 0 => true
  | d + 1 => if T (N - (d + 1)) = 11 ∨ T (N - (d + 1)) = 10 then true else if bi_bl (T (N - (d + 1))) then (if K (N - (d + 1)) = 0 then bi_trf T K N d else true) else false
def bi_tr (T K : Nat → Int32) (N j : Nat) : Bool := bi_trf T K N (N - j)
theorem bi_tr_end (T K : Nat → Int32) (N : Nat) : bi_tr T K N N = true := by
  unfold bi_tr
  rw [Nat.sub_self]; rfl
theorem bi_tr_eq {T K : Nat → Int32} {N j : Nat} (h : j < N) : bi_tr T K N j = if T j = 11 ∨ T j = 10 then true else if bi_bl (T j) then (if K j = 0 then bi_tr T K N (j + 1) else true) else false := by
  unfold bi_tr
  have e : N - j = N - (j + 1) + 1 := by omega
  rw [e]
  have e2 : N - (N - (j + 1) + 1) = j := by omega
  rw [bi_trf, e2]
def bi_lv (T K : Nat → Int32) (N : Nat) (para : Int32) (imp : Nat → Int32) (i : Nat) : Int32 := if bi_R (T i) then imp i else if bi_tr T K N i = true then para else imp i
/-! the least level of the retained positions from a on -/
def bi_mn (T : Nat → Int32) (w : Nat → Nat) (a : Nat) : Nat → Nat
  | 0 => w a
  | d + 1 => if bi_R (T (a + (d + 1))) then bi_mn T w a d else if w (a + (d + 1)) < bi_mn T w a d then w (a + (d + 1)) else bi_mn T w a d
theorem bi_mn_le {T : Nat → Int32} {w : Nat → Nat} {a l : Nat} : ∀ {d : Nat}, l ≤ bi_mn T w a d ↔ (l ≤ w a ∧ ∀ j, a < j → j ≤ a + d → ¬ bi_R (T j) → l ≤ w j)
  | 0 => ⟨fun h => ⟨h, fun j h1 h2 => by omega⟩, fun h => h.1⟩
  | d + 1 => by
    have ih := bi_mn_le (T := T) (w := w) (a := a) (l := l) (d := d)
    have key : (l ≤ w a ∧ ∀ j, a < j → j ≤ a + (d + 1) → ¬ bi_R (T j) → l ≤ w j) ↔ (l ≤ bi_mn T w a d ∧ (¬ bi_R (T (a + (d + 1))) → l ≤ w (a + (d + 1)))) := by
      rw [ih]
      constructor
      · intro h
        exact ⟨⟨h.1, fun j h1 h2 => h.2 j h1 (by omega)⟩, h.2 _ (by omega) (by omega)⟩
      · intro h
        refine ⟨h.1.1, fun j h1 h2 h3 => ?_⟩
        by_cases e : j = a + (d + 1)
        · subst e; exact h.2 h3
        · exact h.1.2 j h1 (by omega) h3
    rw [key]
    simp only [bi_mn]
    by_cases r : bi_R (T (a + (d + 1)))
    · rw [if_pos r]
      exact ⟨fun h => ⟨h, fun z => absurd r z⟩, fun h => h.1⟩
    · rw [if_neg r]
      by_cases q : w (a + (d + 1)) < bi_mn T w a d
      · rw [if_pos q]
        exact ⟨fun h => ⟨by omega, fun _ => h⟩, fun h => h.2 r⟩
      · rw [if_neg q]
        exact ⟨fun h => ⟨h, fun _ => by omega⟩, fun h => h.1⟩
end
section
/-! reversing runs from the highest level down: two places change sides once for each level up to the least between them -/
def bi_bt (p q u : Nat) : Prop := (p ≤ u ∧ u ≤ q) ∨ (q ≤ u ∧ u ≤ p)
def bi_Ord (M : Nat → Nat → Nat) (a b l : Nat) (σ : Nat → Nat) : Prop :=
  (∀ s, a ≤ s → s < b → a ≤ σ s ∧ σ s < b) ∧
  (∀ p, a ≤ p → p < b → ∃ s, a ≤ s ∧ s < b ∧ σ s = p) ∧
  (∀ s, a ≤ s → s < b → σ s = s ∨ l ≤ M s (σ s)) ∧
  (∀ s t, a ≤ s → s < b → a ≤ t → t < b → s ≠ t → (s < t ↔ (σ s < σ t ↔ (M (σ s) (σ t) + 1 - l) % 2 = 0)))
def bi_Rho (P : Nat → Prop) (a b : Nat) (ρ : Nat → Nat) : Prop :=
  (∀ s, a ≤ s → s < b → a ≤ ρ s ∧ ρ s < b ∧ ρ (ρ s) = s ∧ (¬ P s → ρ s = s) ∧ (∀ u, P s → bi_bt s (ρ s) u → P u)) ∧
  (∀ s t, a ≤ s → s < t → t < b → ((∀ u, s ≤ u → u ≤ t → P u) → ρ t < ρ s) ∧ (¬ (∀ u, s ≤ u → u ≤ t → P u) → ρ s < ρ t))
def bi_MW (M : Nat → Nat → Nat) (w : Nat → Nat) (a b : Nat) : Prop := ∀ p q, a ≤ p → p < b → a ≤ q → q < b → ∀ l, l ≤ M p q ↔ ∀ u, bi_bt p q u → l ≤ w u
theorem bi_ord_0 {M : Nat → Nat → Nat} {a b l : Nat} (h : ∀ p q, a ≤ p → p < b → a ≤ q → q < b → M p q < l) : bi_Ord M a b l (fun s => s) := by
  refine ⟨fun s h1 h2 => ⟨h1, h2⟩, fun p h1 h2 => ⟨p, h1, h2, rfl⟩, fun s _ _ => Or.inl rfl, fun s t h1 h2 h3 h4 _ => ?_⟩
  have := h s t h1 h2 h3 h4
  have e : M s t + 1 - l = 0 := by omega
  show s < t ↔ (s < t ↔ (M s t + 1 - l) % 2 = 0)
  rw [e]
  simp
theorem bi_ord_fix {M : Nat → Nat → Nat} {w : Nat → Nat} {a b l : Nat} {σ : Nat → Nat} (hM : bi_MW M w a b) (ho : bi_Ord M a b (l + 1) σ) {s : Nat} (h1 : a ≤ s) (h2 : s < b) (hp : ¬ l ≤ w s) : σ s = s := by
  rcases ho.2.2.1 s h1 h2 with e | e
  · exact e
  · obtain ⟨h3, h4⟩ := ho.1 s h1 h2
    have := (hM s (σ s) h1 h2 h3 h4 (l + 1)).mp e s (by unfold bi_bt; omega)
    omega
theorem bi_ord_blk {M : Nat → Nat → Nat} {w : Nat → Nat} {a b l : Nat} {σ : Nat → Nat} (hM : bi_MW M w a b) (ho : bi_Ord M a b (l + 1) σ) {s : Nat} (h1 : a ≤ s) (h2 : s < b) (hp : l ≤ w s) {u : Nat} (hu : bi_bt s (σ s) u) : l ≤ w u := by
  obtain ⟨h3, h4⟩ := ho.1 s h1 h2
  rcases ho.2.2.1 s h1 h2 with e | e
  · rw [e] at hu
    have : u = s := by unfold bi_bt at hu; omega
    rw [this]; exact hp
  · have := (hM s (σ s) h1 h2 h3 h4 (l + 1)).mp e u hu
    omega
theorem bi_ord_lv {M : Nat → Nat → Nat} {w : Nat → Nat} {a b l : Nat} {σ : Nat → Nat} (hM : bi_MW M w a b) (ho : bi_Ord M a b (l + 1) σ) {s : Nat} (h1 : a ≤ s) (h2 : s < b) : l ≤ w (σ s) ↔ l ≤ w s := by
  by_cases hp : l ≤ w s
  · exact ⟨fun _ => hp, fun _ => bi_ord_blk hM ho h1 h2 hp (by unfold bi_bt; omega)⟩
  · rw [bi_ord_fix hM ho h1 h2 hp]
theorem bi_rho_blk {w : Nat → Nat} {a b l : Nat} {ρ : Nat → Nat} (hr : bi_Rho (fun u => l ≤ w u) a b ρ) {s : Nat} (h1 : a ≤ s) (h2 : s < b) (hp : l ≤ w s) {u : Nat} (hu : bi_bt s (ρ s) u) : l ≤ w u := (hr.1 s h1 h2).2.2.2.2 u hp hu
theorem bi_ord_step {M : Nat → Nat → Nat} {w : Nat → Nat} {a b l : Nat} {σ ρ : Nat → Nat} (hM : bi_MW M w a b) (ho : bi_Ord M a b (l + 1) σ) (hr : bi_Rho (fun u => l ≤ w u) a b ρ) : bi_Ord M a b l (fun s => σ (ρ s)) := by
  have run : ∀ s, a ≤ s → s < b → l ≤ w s → ∀ u, bi_bt s (σ (ρ s)) u → l ≤ w u := by
    intro s h1 h2 hp u hu
    obtain ⟨r1, r2, _, _, _⟩ := hr.1 s h1 h2
    have hp' : l ≤ w (ρ s) := bi_rho_blk hr h1 h2 hp (by unfold bi_bt; omega)
    have : bi_bt s (ρ s) u ∨ bi_bt (ρ s) (σ (ρ s)) u := by unfold bi_bt at *; omega
    rcases this with z | z
    · exact bi_rho_blk hr h1 h2 hp z
    · exact bi_ord_blk hM ho r1 r2 hp' z
  have fix : ∀ s, a ≤ s → s < b → ¬ l ≤ w s → σ (ρ s) = s := by
    intro s h1 h2 hp
    rw [(hr.1 s h1 h2).2.2.2.1 hp]
    exact bi_ord_fix hM ho h1 h2 hp
  refine ⟨?_, ?_, ?_, ?_⟩
  · intro s h1 h2
    obtain ⟨r1, r2, _⟩ := hr.1 s h1 h2
    exact ho.1 _ r1 r2
  · intro p h1 h2
    obtain ⟨s, s1, s2, e⟩ := ho.2.1 p h1 h2
    obtain ⟨r1, r2, r3, _⟩ := hr.1 s s1 s2
    exact ⟨ρ s, r1, r2, by show σ (ρ (ρ s)) = p; rw [r3]; exact e⟩
  · intro s h1 h2
    obtain ⟨r1, r2, _⟩ := hr.1 s h1 h2
    obtain ⟨r3, r4⟩ := ho.1 _ r1 r2
    by_cases hp : l ≤ w s
    · exact Or.inr ((hM s (σ (ρ s)) h1 h2 r3 r4 l).mpr (run s h1 h2 hp))
    · exact Or.inl (fix s h1 h2 hp)
  · intro s t hs1 hs2 ht1 ht2 hst
    obtain ⟨r1, r2, r3, _⟩ := hr.1 s hs1 hs2
    obtain ⟨q1, q2, q3, _⟩ := hr.1 t ht1 ht2
    obtain ⟨r4, r5⟩ := ho.1 _ r1 r2
    obtain ⟨q4, q5⟩ := ho.1 _ q1 q2
    have hne : ρ s ≠ ρ t := fun e => hst (by rw [← r3, e, q3])
    have H := ho.2.2.2 _ _ r1 r2 q1 q2 hne
    show s < t ↔ (σ (ρ s) < σ (ρ t) ↔ (M (σ (ρ s)) (σ (ρ t)) + 1 - l) % 2 = 0)
    have hMM := hM (σ (ρ s)) (σ (ρ t)) r4 r5 q4 q5 l
    by_cases all : ∀ u, bi_bt s t u → l ≤ w u
    · have a1 : s < t ↔ ρ t < ρ s := by
        rcases Nat.lt_or_ge s t with z | z
        · exact ⟨fun _ => (hr.2 s t hs1 z ht2).1 (fun u u1 u2 => all u (Or.inl ⟨u1, u2⟩)), fun _ => z⟩
        · have := (hr.2 t s ht1 (by omega) hs2).1 (fun u u1 u2 => all u (Or.inr ⟨u1, u2⟩))
          omega
      have ps : l ≤ w s := all s (by unfold bi_bt; omega)
      have pt : l ≤ w t := all t (by unfold bi_bt; omega)
      have hm : l ≤ M (σ (ρ s)) (σ (ρ t)) := by
        refine hMM.mpr (fun u hu => ?_)
        have : bi_bt s (σ (ρ s)) u ∨ bi_bt s t u ∨ bi_bt t (σ (ρ t)) u := by unfold bi_bt at *; omega
        rcases this with z | z | z
        · exact run s hs1 hs2 ps u z
        · exact all u z
        · exact run t ht1 ht2 pt u z
      generalize M (σ (ρ s)) (σ (ρ t)) = m at *
      have e1 : m + 1 - (l + 1) = m - l := by omega
      rw [e1] at H
      have e2 : (m + 1 - l) % 2 = 0 ↔ ¬ (m - l) % 2 = 0 := by omega
      rw [a1, e2]
      have a2 : ρ t < ρ s ↔ ¬ ρ s < ρ t := by omega
      rw [a2, H]
      by_cases x : σ (ρ s) < σ (ρ t) <;> by_cases y : (m - l) % 2 = 0 <;> simp [x, y]
    · have a1 : s < t ↔ ρ s < ρ t := by
        rcases Nat.lt_or_ge s t with z | z
        · exact ⟨fun _ => (hr.2 s t hs1 z ht2).2 (fun f => all (fun u hu => f u (by unfold bi_bt at hu; omega) (by unfold bi_bt at hu; omega))), fun _ => z⟩
        · have := (hr.2 t s ht1 (by omega) hs2).2 (fun f => all (fun u hu => f u (by unfold bi_bt at hu; omega) (by unfold bi_bt at hu; omega)))
          omega
      have hm : ¬ l ≤ M (σ (ρ s)) (σ (ρ t)) := by
        intro z
        have big := hMM.mp z
        have near : ∀ x, a ≤ x → x < b → (∀ u, u = σ (ρ x) → l ≤ w u) → ∀ u, bi_bt x (σ (ρ x)) u → l ≤ w u := by
          intro x x1 x2 hx u hu
          by_cases hp : l ≤ w x
          · exact run x x1 x2 hp u hu
          · have e := fix x x1 x2 hp
            rw [e] at hu
            have : u = x := by unfold bi_bt at hu; omega
            exact hx u (by rw [e]; exact this)
        have ns := near s hs1 hs2 (fun u e => big u (by unfold bi_bt; omega))
        have nt := near t ht1 ht2 (fun u e => big u (by unfold bi_bt; omega))
        refine all (fun u hu => ?_)
        have : bi_bt s (σ (ρ s)) u ∨ bi_bt (σ (ρ s)) (σ (ρ t)) u ∨ bi_bt t (σ (ρ t)) u := by unfold bi_bt at *; omega
        rcases this with z | z | z
        · exact ns u z
        · exact big u z
        · exact nt u z
      generalize M (σ (ρ s)) (σ (ρ t)) = m at *
      have e1 : m + 1 - (l + 1) = 0 := by omega
      have e2 : m + 1 - l = 0 := by omega
      rw [e1] at H
      rw [e2, a1]
      exact H
theorem bi_rho_0 (P : Nat → Prop) (a : Nat) (ρ : Nat → Nat) : bi_Rho P a a ρ := ⟨fun s h1 h2 => by omega, fun s t h1 h2 h3 => by omega⟩
def bi_ext (ρ : Nat → Nat) (c e : Nat) : Nat → Nat := fun x => if x < c then ρ x else if x < e then c + e - 1 - x else x
theorem bi_rho_run {P : Nat → Prop} {a c e : Nat} {ρ : Nat → Nat} (h : bi_Rho P a c ρ) (ha : a ≤ c) (hs : c = a ∨ ¬ P (c - 1)) (hc : c ≤ e) (hp : ∀ u, c ≤ u → u < e → P u) : bi_Rho P a e (bi_ext ρ c e) := by
  have lo : ∀ x, x < c → bi_ext ρ c e x = ρ x := fun x hx => if_pos hx
  have hi : ∀ x, c ≤ x → x < e → bi_ext ρ c e x = c + e - 1 - x := fun x h1 h2 => by
    unfold bi_ext
    rw [if_neg (by omega), if_pos h2]
  refine ⟨fun s h1 h2 => ?_, fun s t h1 h2 h3 => ?_⟩
  · by_cases z : s < c
    · obtain ⟨r1, r2, r3, r4, r5⟩ := h.1 s h1 z
      rw [lo s z, lo _ r2]
      exact ⟨r1, by omega, r3, r4, r5⟩
    · have e1 := hi s (by omega) h2
      rw [e1, hi _ (by omega) (by omega)]
      refine ⟨by omega, by omega, by omega, fun z2 => absurd (hp s (by omega) h2) z2, fun u _ hu => ?_⟩
      unfold bi_bt at hu
      exact hp u (by omega) (by omega)
  · by_cases z : t < c
    · rw [lo s (by omega), lo t z]
      exact h.2 s t h1 h2 z
    · by_cases z2 : s < c
      · obtain ⟨r1, r2, _⟩ := h.1 s h1 z2
        rw [lo s z2, hi t (by omega) h3]
        have np : ¬ P (c - 1) := by
          rcases hs with q | q
          · omega
          · exact q
        exact ⟨fun f => absurd (f (c - 1) (by omega) (by omega)) np, fun _ => by omega⟩
      · rw [hi s (by omega) (by omega), hi t (by omega) h3]
        exact ⟨fun _ => by omega, fun f => absurd (fun u u1 u2 => hp u (by omega) (by omega)) f⟩
theorem bi_rho_one {P : Nat → Prop} {a e : Nat} {ρ : Nat → Nat} (h : bi_Rho P a e ρ) (he : ρ e = e) (hp : ¬ P e) : bi_Rho P a (e + 1) ρ := by
  refine ⟨fun s h1 h2 => ?_, fun s t h1 h2 h3 => ?_⟩
  · by_cases z : s = e
    · subst z
      rw [he, he]
      exact ⟨h1, by omega, rfl, fun _ => rfl, fun u q => absurd q hp⟩
    · obtain ⟨r1, r2, r3⟩ := h.1 s h1 (by omega)
      exact ⟨r1, by omega, r3⟩
  · by_cases z : t = e
    · subst z
      obtain ⟨r1, r2, _⟩ := h.1 s h1 (by omega)
      rw [he]
      exact ⟨fun f => absurd (f t (by omega) (by omega)) hp, fun _ => r2⟩
    · exact h.2 s t h1 h2 (by omega)
end
section
/-! the component's lines: splitting -/
def bi_lc (K : Nat → Int32) : Nat → Nat
  | 0 => 0
  | i + 1 => bi_ln K i + 1
theorem bi_lc_le (K : Nat → Int32) : ∀ i, bi_lc K i ≤ i
  | 0 => Nat.le_refl _
  | i + 1 => by have := bi_ln_le K i; simp only [bi_lc]; omega
theorem bi_fs_new {K : Nat → Int32} {N i : Nat} (hi : i < N) (h : i = 0 ∨ ¬ K (i - 1) = 0) : bi_fs K N (bi_ln K i) = i := by
  have h1 := (bi_ln_iff (K := K) (N := N) (l := bi_ln K i) hi).mp rfl
  by_cases z : i = 0
  · omega
  · obtain ⟨j, rfl⟩ : ∃ j, i = j + 1 := ⟨i - 1, by omega⟩
    have h2 := (bi_fs_spec K (bi_ln K (j + 1)) N).2 j (by omega)
    have h3 : bi_ln K (j + 1) = bi_ln K j + 1 := by
      simp only [bi_ln]
      rw [if_neg (show ¬ K j = 0 from h.resolve_left (by omega))]
    omega
section
variable {f_cap f_depth f_size f_paragraph f_lines f_resolved f_top f_overflowIsolates f_overflowEmbeddings f_validIsolates f_seqLen f_seqLevel f_runDir f_sos f_eos f_openCount : Int32} {a_text a_breakAfter a_partner a_level a_type a_prevKept a_nextKept a_implicit a_pair a_valid a_taken a_stackLevel a_stackOverride a_stackIsolate a_seq a_kind a_mate a_openAt a_wasMark a_lineFirst a_lineSlot a_lineLv a_order a_place : Nat → Int32}
theorem bx_split59 {post : SX → Prop} {J9 : Int32 → Int32 → Int32 → (Nat → Int32) → (Nat → Int32) → (Nat → Int32) → (Nat → Int32) → (Nat → Int32) → (Nat → Int32) → (Nat → Int32) → (Nat → Int32) → (Nat → Int32) → (Nat → Int32) → (Nat → Int32) → (Nat → Int32) → (Nat → Int32) → (Nat → Int32) → (Nat → Int32) → (Nat → Int32) → (Nat → Int32) → (Nat → Int32) → (Nat → Int32) → (Nat → Int32) → (Nat → Int32) → (Nat → Int32) → (Nat → Int32) → (Nat → Int32) → Prop} {r i : Nat} (hr : r < 32) (hi : i < 32)
    (h1 : bi_R (a_text i) → J9 (nI r) (nI (i + 1)) f_lines a_text a_breakAfter a_partner a_level a_type a_prevKept a_nextKept a_implicit a_pair a_valid a_taken a_stackLevel a_stackOverride a_stackIsolate a_seq a_kind a_mate a_openAt a_wasMark a_lineFirst a_lineSlot a_lineLv a_order a_place) (h0 : ¬ bi_R (a_text i) → J9 (nI (r + 1)) (nI (i + 1)) f_lines a_text a_breakAfter a_partner a_level a_type a_prevKept a_nextKept a_implicit a_pair a_valid a_taken a_stackLevel a_stackOverride a_stackIsolate a_seq a_kind a_mate a_openAt a_wasMark a_lineFirst a_lineSlot a_lineLv (upd a_order r (nI i)) a_place) :
    wX_splitLines_59 post J9 (nI r) (nI i) f_cap f_depth f_size f_paragraph f_lines f_resolved f_top f_overflowIsolates f_overflowEmbeddings f_validIsolates f_seqLen f_seqLevel f_runDir f_sos f_eos f_openCount a_text a_breakAfter a_partner a_level a_type a_prevKept a_nextKept a_implicit a_pair a_valid a_taken a_stackLevel a_stackOverride a_stackIsolate a_seq a_kind a_mate a_openAt a_wasMark a_lineFirst a_lineSlot a_lineLv a_order a_place := by
  unfold wX_splitLines_59
  rw [nI_clamp (n := i) (by omega), nI_clamp (n := r) (by omega)]
  exact And.intro (vp_in_nI hi (by omega)) (bx_ifR (fun h => nm_r (nI_1 r) (And.intro (vp_in_nI hr (by omega)) (nm_e (nm_r (nI_1 i) (h0 h))))) (fun h => nm_r (nI_1 i) (h1 h)))
theorem bx_split_loop {post : SX → Prop} {N : Nat} (hN : N ≤ 32) (h0 : 0 < N) (hK : a_breakAfter (N - 1) = 0)
    (hC : ∀ lf ls od : Nat → Int32, (∀ l, l ≤ bi_ln a_breakAfter N → lf l = nI (bi_fs a_breakAfter N l)) → (∀ l, l ≤ bi_ln a_breakAfter N + 1 → ls l = nI (bi_rc a_text (bi_fs a_breakAfter N l))) → (∀ s, s < bi_rc a_text N → od s = nI (bi_ps a_text N s)) → post (f_cap, f_depth, nI N, f_paragraph, nI (bi_ln a_breakAfter N + 1), f_resolved, f_top, f_overflowIsolates, f_overflowEmbeddings, f_validIsolates, f_seqLen, f_seqLevel, f_runDir, f_sos, f_eos, f_openCount, a_text, a_breakAfter, a_partner, a_level, a_type, a_prevKept, a_nextKept, a_implicit, a_pair, a_valid, a_taken, a_stackLevel, a_stackOverride, a_stackIsolate, a_seq, a_kind, a_mate, a_openAt, a_wasMark, lf, ls, a_lineLv, od, a_place)) :
    ∀ (n i : Nat) (lf ls od : Nat → Int32), i ≤ N → N - i < n →
      (∀ l, l < bi_lc a_breakAfter i → lf l = nI (bi_fs a_breakAfter N l) ∧ ls l = nI (bi_rc a_text (bi_fs a_breakAfter N l))) → (∀ s, s < bi_rc a_text i → od s = nI (bi_ps a_text N s)) →
      wX_splitLines_9 post f_cap f_depth (nI N) f_paragraph f_resolved f_top f_overflowIsolates f_overflowEmbeddings f_validIsolates f_seqLen f_seqLevel f_runDir f_sos f_eos f_openCount n (nI (bi_rc a_text i)) (nI i) (nI (bi_lc a_breakAfter i)) a_text a_breakAfter a_partner a_level a_type a_prevKept a_nextKept a_implicit a_pair a_valid a_taken a_stackLevel a_stackOverride a_stackIsolate a_seq a_kind a_mate a_openAt a_wasMark lf ls a_lineLv od a_place := by
  intro n
  induction n with
  | zero => intro i lf ls od h1 h2; omega
  | succ n ih =>
    intro i lf ls od hi hn hl ho
    have hrc := bi_rc_le a_text i
    have hlc := bi_lc_le a_breakAfter i
    by_cases he : N ≤ i
    · have e : i = N := by omega
      subst e
      refine br_t (nI_le he (by omega)) (And.intro (vp_in_nI (by omega) (by omega)) ?_)
      intro ls' els
      have e2 : bi_lc a_breakAfter i = bi_ln a_breakAfter i + 1 := by
        obtain ⟨m, rfl⟩ : ∃ m, i = m + 1 := ⟨i - 1, by omega⟩
        simp only [bi_lc, bi_ln]
        rw [if_pos (show a_breakAfter m = 0 from hK)]
      rw [nI_clamp (by omega)] at els
      rw [e2] at hl els ⊢
      refine hC _ _ _ (fun l h => (hl l (by omega)).1) (fun l h => ?_) ho
      rw [els]
      by_cases z : l = bi_ln a_breakAfter i + 1
      · rw [z, pk_us, bi_fs_end (by omega)]
      · rw [pk_un z]
        exact (hl l (by omega)).2
    · have hstep : ∀ (lf' ls' : Nat → Int32), (∀ l, l < bi_lc a_breakAfter (i + 1) → lf' l = nI (bi_fs a_breakAfter N l) ∧ ls' l = nI (bi_rc a_text (bi_fs a_breakAfter N l))) →
          wX_splitLines_59 post (wX_splitLines_9 post f_cap f_depth (nI N) f_paragraph f_resolved f_top f_overflowIsolates f_overflowEmbeddings f_validIsolates f_seqLen f_seqLevel f_runDir f_sos f_eos f_openCount n) (nI (bi_rc a_text i)) (nI i) f_cap f_depth (nI N) f_paragraph (nI (bi_lc a_breakAfter (i + 1))) f_resolved f_top f_overflowIsolates f_overflowEmbeddings f_validIsolates f_seqLen f_seqLevel f_runDir f_sos f_eos f_openCount a_text a_breakAfter a_partner a_level a_type a_prevKept a_nextKept a_implicit a_pair a_valid a_taken a_stackLevel a_stackOverride a_stackIsolate a_seq a_kind a_mate a_openAt a_wasMark lf' ls' a_lineLv od a_place := by
        intro lf' ls' hl'
        refine bx_split59 (by omega) (by omega) (fun h => ?_) (fun h => ?_)
        · have := ih (i + 1) lf' ls' od (by omega) (by omega) hl' (by rw [bi_rc_R h]; exact ho)
          rw [bi_rc_R h] at this
          exact this
        · have := ih (i + 1) lf' ls' (upd od (bi_rc a_text i) (nI i)) (by omega) (by omega) hl' (by
            intro s hs
            rw [bi_rc_N h] at hs
            by_cases z : s = bi_rc a_text i
            · rw [z, pk_us, bi_ps_rc h (by omega)]
            · rw [pk_un z]
              exact ho s (by omega))
          rw [bi_rc_N h] at this
          exact this
      have hnew : (i = 0 ∨ ¬ a_breakAfter (i - 1) = 0) → wX_splitLines_32 post (wX_splitLines_9 post f_cap f_depth (nI N) f_paragraph f_resolved f_top f_overflowIsolates f_overflowEmbeddings f_validIsolates f_seqLen f_seqLevel f_runDir f_sos f_eos f_openCount n) (nI (bi_rc a_text i)) (nI i) f_cap f_depth (nI N) f_paragraph (nI (bi_lc a_breakAfter i)) f_resolved f_top f_overflowIsolates f_overflowEmbeddings f_validIsolates f_seqLen f_seqLevel f_runDir f_sos f_eos f_openCount a_text a_breakAfter a_partner a_level a_type a_prevKept a_nextKept a_implicit a_pair a_valid a_taken a_stackLevel a_stackOverride a_stackIsolate a_seq a_kind a_mate a_openAt a_wasMark lf ls a_lineLv od a_place := by
        intro hz
        have e1 : bi_lc a_breakAfter i = bi_ln a_breakAfter i := by
          by_cases z : i = 0
          · subst z; rfl
          · obtain ⟨j, rfl⟩ : ∃ j, i = j + 1 := ⟨i - 1, by omega⟩
            simp only [bi_lc, bi_ln]
            rw [if_neg (show ¬ a_breakAfter j = 0 from hz.resolve_left (by omega))]
        have e2 : bi_lc a_breakAfter (i + 1) = bi_lc a_breakAfter i + 1 := by rw [e1]; rfl
        have e3 := bi_fs_new (K := a_breakAfter) (N := N) (i := i) (by omega) hz
        rw [← e1] at e3
        refine And.intro (vp_in_nI (by omega) (by omega)) ?_
        intro lf' elf
        refine nm_r (e' := nI (bi_lc a_breakAfter (i + 1))) (by rw [e2, nI_1]) (And.intro (vp_in_nI (by omega) (by omega)) ?_)
        intro ls' els
        rw [nI_clamp (by omega)] at elf els
        refine hstep lf' ls' (fun l h => ?_)
        rw [elf, els]
        by_cases z : l = bi_lc a_breakAfter i
        · rw [z, pk_us, pk_us, e3]; exact ⟨rfl, rfl⟩
        · rw [pk_un z, pk_un z]
          exact hl l (by omega)
      refine br_f (nI_ge (by omega) (by omega)) ?_
      by_cases z : i = 0
      · refine br_t (by rw [z]; rfl) (hnew (Or.inl z))
      · refine br_f (fun e => z ((bi_eq0 (by omega)).mp e)) ?_
        rw [bi_p1 (by omega)]
        refine And.intro (vp_in_nI (by omega) (by omega)) ?_
        rw [nI_clamp (n := i - 1) (by omega)]
        refine br_c (fun k0 => ?_) (fun k1 => hnew (Or.inr k1))
        have e2 : bi_lc a_breakAfter (i + 1) = bi_lc a_breakAfter i := by
          obtain ⟨j, rfl⟩ : ∃ j, i = j + 1 := ⟨i - 1, by omega⟩
          simp only [bi_lc, bi_ln]
          rw [if_pos (show a_breakAfter j = 0 from k0)]
        have := hstep lf ls (by rw [e2]; exact hl)
        rw [e2] at this
        exact this
theorem bx_split {post : SX → Prop} {N : Nat} (hN : N ≤ 32) (h0 : 0 < N) (hK : a_breakAfter (N - 1) = 0)
    (hC : ∀ lf ls od : Nat → Int32, (∀ l, l ≤ bi_ln a_breakAfter N → lf l = nI (bi_fs a_breakAfter N l)) → (∀ l, l ≤ bi_ln a_breakAfter N + 1 → ls l = nI (bi_rc a_text (bi_fs a_breakAfter N l))) → (∀ s, s < bi_rc a_text N → od s = nI (bi_ps a_text N s)) → post (f_cap, f_depth, nI N, f_paragraph, nI (bi_ln a_breakAfter N + 1), f_resolved, f_top, f_overflowIsolates, f_overflowEmbeddings, f_validIsolates, f_seqLen, f_seqLevel, f_runDir, f_sos, f_eos, f_openCount, a_text, a_breakAfter, a_partner, a_level, a_type, a_prevKept, a_nextKept, a_implicit, a_pair, a_valid, a_taken, a_stackLevel, a_stackOverride, a_stackIsolate, a_seq, a_kind, a_mate, a_openAt, a_wasMark, lf, ls, a_lineLv, od, a_place)) :
    wpX_splitLines post (f_cap, f_depth, nI N, f_paragraph, f_lines, f_resolved, f_top, f_overflowIsolates, f_overflowEmbeddings, f_validIsolates, f_seqLen, f_seqLevel, f_runDir, f_sos, f_eos, f_openCount, a_text, a_breakAfter, a_partner, a_level, a_type, a_prevKept, a_nextKept, a_implicit, a_pair, a_valid, a_taken, a_stackLevel, a_stackOverride, a_stackIsolate, a_seq, a_kind, a_mate, a_openAt, a_wasMark, a_lineFirst, a_lineSlot, a_lineLv, a_order, a_place) :=
  Exists.intro (N + 1) (bx_split_loop hN h0 hK hC (N + 1) 0 a_lineFirst a_lineSlot a_order (by omega) (by omega) (fun l h => by simp only [bi_lc] at h; omega) (fun s h => by simp only [bi_rc] at h; omega))
end
end
section
/-! the component's lines: levels, runs -/
def bi_b : Bool → Int32
  | true => 1
  | false => 0
theorem bi_bz (t : Bool) {A B : Prop} (h0 : t = false → A) (h1 : t = true → B) : (bi_b t = 0 → A) ∧ (¬ bi_b t = 0 → B) := by
  cases t with
  | true => exact br_f (by decide) (h1 rfl)
  | false => exact br_t rfl (h0 rfl)
def bi_rv (od : Nat → Int32) (x e : Nat) : Nat → Int32 := fun s => if x ≤ s ∧ s < e then od (x + e - 1 - s) else od s
theorem bi_rv_in {od : Nat → Int32} {x e s : Nat} (h1 : x ≤ s) (h2 : s < e) : bi_rv od x e s = od (x + e - 1 - s) := if_pos ⟨h1, h2⟩
theorem bi_rv_out {od : Nat → Int32} {x e s : Nat} (h : ¬ (x ≤ s ∧ s < e)) : bi_rv od x e s = od s := if_neg h
theorem bi_rv_0 {od : Nat → Int32} {x e : Nat} (h : e ≤ x + 1) : bi_rv od x e = od := by
  funext s
  by_cases z : x ≤ s ∧ s < e
  · rw [bi_rv_in z.1 z.2, show x + e - 1 - s = s by omega]
  · rw [bi_rv_out z]
theorem bi_rv_s {od : Nat → Int32} {x e : Nat} (h : x + 1 < e) : bi_rv (upd (upd od x (od (e - 1))) (e - 1) (od x)) (x + 1) (e - 1) = bi_rv od x e := by
  funext s
  by_cases z : x + 1 ≤ s ∧ s < e - 1
  · rw [bi_rv_in z.1 z.2, bi_rv_in (by omega) (by omega), pk_un (by omega), pk_un (by omega), show x + 1 + (e - 1) - 1 - s = x + e - 1 - s by omega]
  · rw [bi_rv_out z]
    by_cases y : s = e - 1
    · rw [y, pk_us, bi_rv_in (by omega) (by omega), show x + e - 1 - (e - 1) = x by omega]
    · rw [pk_un y]
      by_cases v : s = x
      · rw [v, pk_us, bi_rv_in (by omega) (by omega), show x + e - 1 - x = e - 1 by omega]
      · rw [pk_un v, bi_rv_out (by omega)]
section
variable {f_cap f_depth f_size f_paragraph f_lines f_resolved f_top f_overflowIsolates f_overflowEmbeddings f_validIsolates f_seqLen f_seqLevel f_runDir f_sos f_eos f_openCount : Int32} {a_text a_breakAfter a_partner a_level a_type a_prevKept a_nextKept a_implicit a_pair a_valid a_taken a_stackLevel a_stackOverride a_stackIsolate a_seq a_kind a_mate a_openAt a_wasMark a_lineFirst a_lineSlot a_lineLv a_order a_place : Nat → Int32}
theorem bx_sll95 {post : SX → Prop} {J : Int32 → Int32 →  (Nat → Int32) → (Nat → Int32) → (Nat → Int32) → (Nat → Int32) → (Nat → Int32) → (Nat → Int32) → (Nat → Int32) → (Nat → Int32) → (Nat → Int32) → (Nat → Int32) → (Nat → Int32) → (Nat → Int32) → (Nat → Int32) → (Nat → Int32) → (Nat → Int32) → (Nat → Int32) → (Nat → Int32) → (Nat → Int32) → (Nat → Int32) → (Nat → Int32) → (Nat → Int32) → (Nat → Int32) → (Nat → Int32) → (Nat → Int32) →  Prop} {i : Nat} (t : Bool) (hi : i < 32) {c : Int32} (hc : a_text i = c)
    (k : J (bi_b t) (nI i + (-1)) a_text a_breakAfter a_partner a_level a_type a_prevKept a_nextKept a_implicit a_pair a_valid a_taken a_stackLevel a_stackOverride a_stackIsolate a_seq a_kind a_mate a_openAt a_wasMark a_lineFirst a_lineSlot (upd a_lineLv i (if bi_R (a_text i) then a_implicit i else if t = true then f_paragraph else a_implicit i)) a_order a_place) :
    wX_setLineLevels_95 post J (bi_b t) (nI i) c f_cap f_depth f_size f_paragraph f_lines f_resolved f_top f_overflowIsolates f_overflowEmbeddings f_validIsolates f_seqLen f_seqLevel f_runDir f_sos f_eos f_openCount a_text a_breakAfter a_partner a_level a_type a_prevKept a_nextKept a_implicit a_pair a_valid a_taken a_stackLevel a_stackOverride a_stackIsolate a_seq a_kind a_mate a_openAt a_wasMark a_lineFirst a_lineSlot a_lineLv a_order a_place := by
  unfold wX_setLineLevels_95
  rw [nI_clamp (n := i) (by omega)]
  have hv := vp_in_nI (n := i) (N := 32) hi (by omega)
  subst hc
  refine bi_bz t (fun h => ?_) (fun h => ?_)
  · refine And.intro hv (And.intro hv (nm_e (nm_e ?_)))
    rw [h, if_neg (c := false = true) (by decide)] at k
    by_cases r : bi_R (a_text i)
    · rw [if_pos r] at k; rw [h]; exact k
    · rw [if_neg r] at k; rw [h]; exact k
  · refine bx_ifR (fun r => ?_) (fun r => ?_)
    · rw [if_neg r, if_pos h] at k
      exact And.intro hv (nm_e (nm_e k))
    · rw [if_pos r] at k
      exact And.intro hv (And.intro hv (nm_e (nm_e k)))
theorem bx_sll76 {post : SX → Prop} {J : Int32 → Int32 →  (Nat → Int32) → (Nat → Int32) → (Nat → Int32) → (Nat → Int32) → (Nat → Int32) → (Nat → Int32) → (Nat → Int32) → (Nat → Int32) → (Nat → Int32) → (Nat → Int32) → (Nat → Int32) → (Nat → Int32) → (Nat → Int32) → (Nat → Int32) → (Nat → Int32) → (Nat → Int32) → (Nat → Int32) → (Nat → Int32) → (Nat → Int32) → (Nat → Int32) → (Nat → Int32) → (Nat → Int32) → (Nat → Int32) → (Nat → Int32) →  Prop} {i : Nat} (t bl : Bool) {c : Int32}
    (k : wX_setLineLevels_95 post J (bi_b (if c = 11 ∨ c = 10 then t else if bl = true then t else false)) (nI i) c f_cap f_depth f_size f_paragraph f_lines f_resolved f_top f_overflowIsolates f_overflowEmbeddings f_validIsolates f_seqLen f_seqLevel f_runDir f_sos f_eos f_openCount a_text a_breakAfter a_partner a_level a_type a_prevKept a_nextKept a_implicit a_pair a_valid a_taken a_stackLevel a_stackOverride a_stackIsolate a_seq a_kind a_mate a_openAt a_wasMark a_lineFirst a_lineSlot a_lineLv a_order a_place) :
    wX_setLineLevels_76 post J (bi_b t) (nI i) c (bi_b bl) f_cap f_depth f_size f_paragraph f_lines f_resolved f_top f_overflowIsolates f_overflowEmbeddings f_validIsolates f_seqLen f_seqLevel f_runDir f_sos f_eos f_openCount a_text a_breakAfter a_partner a_level a_type a_prevKept a_nextKept a_implicit a_pair a_valid a_taken a_stackLevel a_stackOverride a_stackIsolate a_seq a_kind a_mate a_openAt a_wasMark a_lineFirst a_lineSlot a_lineLv a_order a_place := by
  unfold wX_setLineLevels_76
  by_cases h1 : c = 11
  · rw [if_pos (Or.inl h1)] at k
    exact br_t h1 k
  · by_cases h2 : c = 10
    · rw [if_pos (Or.inr h2)] at k
      exact br_f h1 (br_t h2 k)
    · rw [if_neg (by intro z; exact z.elim h1 h2)] at k
      refine br_f h1 (br_f h2 (bi_bz bl (fun h => ?_) (fun h => ?_)))
      · rw [h, if_neg (by decide)] at k; exact k
      · rw [h, if_pos rfl] at k; exact k
theorem bx_sll51 {post : SX → Prop} {J : Int32 → Int32 →  (Nat → Int32) → (Nat → Int32) → (Nat → Int32) → (Nat → Int32) → (Nat → Int32) → (Nat → Int32) → (Nat → Int32) → (Nat → Int32) → (Nat → Int32) → (Nat → Int32) → (Nat → Int32) → (Nat → Int32) → (Nat → Int32) → (Nat → Int32) → (Nat → Int32) → (Nat → Int32) → (Nat → Int32) → (Nat → Int32) → (Nat → Int32) → (Nat → Int32) → (Nat → Int32) → (Nat → Int32) → (Nat → Int32) → (Nat → Int32) →  Prop} {i : Nat} (t bl : Bool) {c : Int32} (hi : i < 32)
    (k : wX_setLineLevels_95 post J (bi_b (if c = 11 ∨ c = 10 then true else if bl = true then (if a_breakAfter i = 0 then t else true) else false)) (nI i) c f_cap f_depth f_size f_paragraph f_lines f_resolved f_top f_overflowIsolates f_overflowEmbeddings f_validIsolates f_seqLen f_seqLevel f_runDir f_sos f_eos f_openCount a_text a_breakAfter a_partner a_level a_type a_prevKept a_nextKept a_implicit a_pair a_valid a_taken a_stackLevel a_stackOverride a_stackIsolate a_seq a_kind a_mate a_openAt a_wasMark a_lineFirst a_lineSlot a_lineLv a_order a_place) :
    wX_setLineLevels_51 post J (bi_b t) (nI i) c (bi_b bl) f_cap f_depth f_size f_paragraph f_lines f_resolved f_top f_overflowIsolates f_overflowEmbeddings f_validIsolates f_seqLen f_seqLevel f_runDir f_sos f_eos f_openCount a_text a_breakAfter a_partner a_level a_type a_prevKept a_nextKept a_implicit a_pair a_valid a_taken a_stackLevel a_stackOverride a_stackIsolate a_seq a_kind a_mate a_openAt a_wasMark a_lineFirst a_lineSlot a_lineLv a_order a_place := by
  unfold wX_setLineLevels_51
  rw [nI_clamp (n := i) (by omega)]
  refine And.intro (vp_in_nI hi (by omega)) ?_
  by_cases h0 : a_breakAfter i = 0
  · rw [if_pos h0] at k
    refine br_t h0 ?_
    by_cases h1 : c = 11
    · refine br_t h1 (bx_sll76 true bl ?_)
      rw [if_pos (Or.inl h1)] at k ⊢
      exact k
    · refine br_f h1 ?_
      by_cases h2 : c = 10
      · refine br_t h2 (bx_sll76 true bl ?_)
        rw [if_pos (Or.inr h2)] at k ⊢
        exact k
      · have h3 : ¬ (c = 11 ∨ c = 10) := fun z => z.elim h1 h2
        refine br_f h2 (bx_sll76 t bl ?_)
        rw [if_neg h3] at k ⊢
        exact k
  · rw [if_neg h0] at k
    refine br_f h0 (bx_sll76 true bl ?_)
    exact k
theorem bx_sll_step {post : SX → Prop} {n i : Nat} {t : Bool} (hi : i < 32)
    (k : wX_setLineLevels_9 post f_cap f_depth f_size f_paragraph f_lines f_resolved f_top f_overflowIsolates f_overflowEmbeddings f_validIsolates f_seqLen f_seqLevel f_runDir f_sos f_eos f_openCount n (bi_b (if a_text i = 11 ∨ a_text i = 10 then true else if bi_bl (a_text i) then (if a_breakAfter i = 0 then t else true) else false)) (nI i + (-1))
      a_text a_breakAfter a_partner a_level a_type a_prevKept a_nextKept a_implicit a_pair a_valid a_taken a_stackLevel a_stackOverride a_stackIsolate a_seq a_kind a_mate a_openAt a_wasMark a_lineFirst a_lineSlot (upd a_lineLv i (if bi_R (a_text i) then a_implicit i else if (if a_text i = 11 ∨ a_text i = 10 then true else if bi_bl (a_text i) then (if a_breakAfter i = 0 then t else true) else false) = true then f_paragraph else a_implicit i)) a_order a_place) :
    wX_setLineLevels_9 post f_cap f_depth f_size f_paragraph f_lines f_resolved f_top f_overflowIsolates f_overflowEmbeddings f_validIsolates f_seqLen f_seqLevel f_runDir f_sos f_eos f_openCount (n + 1) (bi_b t) (nI i) a_text a_breakAfter a_partner a_level a_type a_prevKept a_nextKept a_implicit a_pair a_valid a_taken a_stackLevel a_stackOverride a_stackIsolate a_seq a_kind a_mate a_openAt a_wasMark a_lineFirst a_lineSlot a_lineLv a_order a_place := by
  have hb : ∀ bl : Bool, (bl = true ↔ bi_bl (a_text i)) → wX_setLineLevels_51 post (wX_setLineLevels_9 post f_cap f_depth f_size f_paragraph f_lines f_resolved f_top f_overflowIsolates f_overflowEmbeddings f_validIsolates f_seqLen f_seqLevel f_runDir f_sos f_eos f_openCount n) (bi_b t) (nI i) (a_text i) (bi_b bl) f_cap f_depth f_size f_paragraph f_lines f_resolved f_top f_overflowIsolates f_overflowEmbeddings f_validIsolates f_seqLen f_seqLevel f_runDir f_sos f_eos f_openCount a_text a_breakAfter a_partner a_level a_type a_prevKept a_nextKept a_implicit a_pair a_valid a_taken a_stackLevel a_stackOverride a_stackIsolate a_seq a_kind a_mate a_openAt a_wasMark a_lineFirst a_lineSlot a_lineLv a_order a_place := by
    intro bl hbl
    refine bx_sll51 t bl hi (bx_sll95 _ hi rfl ?_)
    by_cases z : bi_bl (a_text i)
    · rw [if_pos z] at k
      rw [hbl.mpr z, if_pos rfl]
      exact k
    · rw [if_neg z] at k
      have : bl = false := by cases bl; rfl; exact absurd (hbl.mp rfl) z
      rw [this, if_neg (c := false = true) (by decide)]
      exact k
  refine br_f (nI_pos (by omega)) (And.intro (vp_in_nI hi (by omega)) ?_)
  rw [nI_clamp (n := i) (by omega)]
  refine nm_e ?_
  have h46 : bi_bl (a_text i) → wX_setLineLevels_46 post (wX_setLineLevels_9 post f_cap f_depth f_size f_paragraph f_lines f_resolved f_top f_overflowIsolates f_overflowEmbeddings f_validIsolates f_seqLen f_seqLevel f_runDir f_sos f_eos f_openCount n) (bi_b t) (nI i) (a_text i) f_cap f_depth f_size f_paragraph f_lines f_resolved f_top f_overflowIsolates f_overflowEmbeddings f_validIsolates f_seqLen f_seqLevel f_runDir f_sos f_eos f_openCount a_text a_breakAfter a_partner a_level a_type a_prevKept a_nextKept a_implicit a_pair a_valid a_taken a_stackLevel a_stackOverride a_stackIsolate a_seq a_kind a_mate a_openAt a_wasMark a_lineFirst a_lineSlot a_lineLv a_order a_place := fun z => hb true ⟨fun _ => z, fun _ => rfl⟩
  have h38 : ¬ a_text i = 12 → ¬ (¬ a_text i < 19 ∧ a_text i ≤ 22) → wX_setLineLevels_38 post (wX_setLineLevels_9 post f_cap f_depth f_size f_paragraph f_lines f_resolved f_top f_overflowIsolates f_overflowEmbeddings f_validIsolates f_seqLen f_seqLevel f_runDir f_sos f_eos f_openCount n) (bi_b t) (nI i) (a_text i) f_cap f_depth f_size f_paragraph f_lines f_resolved f_top f_overflowIsolates f_overflowEmbeddings f_validIsolates f_seqLen f_seqLevel f_runDir f_sos f_eos f_openCount a_text a_breakAfter a_partner a_level a_type a_prevKept a_nextKept a_implicit a_pair a_valid a_taken a_stackLevel a_stackOverride a_stackIsolate a_seq a_kind a_mate a_openAt a_wasMark a_lineFirst a_lineSlot a_lineLv a_order a_place := by
    intro z1 z2
    refine bx_ifR (fun r => ?_) (fun r => h46 (Or.inr (Or.inr r)))
    exact hb false ⟨fun z => (by cases z), fun z => absurd z (fun q => q.elim z1 (fun q => q.elim z2 r))⟩
  refine br_c (fun h => h46 (Or.inl h)) (fun h => br_c (fun h2 => h38 h (fun z => z.1 h2)) (fun h2 => br_c (fun h3 => h46 (Or.inr (Or.inl ⟨h2, h3⟩))) (fun h3 => h38 h (fun z => h3 z.2))))
theorem bx_sll_loop {post : SX → Prop} {N : Nat} (hN : N ≤ 32)
    (hC : ∀ lv : Nat → Int32, (∀ j, j < N → lv j = bi_lv a_text a_breakAfter N f_paragraph a_implicit j) → post (f_cap, f_depth, f_size, f_paragraph, f_lines, f_resolved, f_top, f_overflowIsolates, f_overflowEmbeddings, f_validIsolates, f_seqLen, f_seqLevel, f_runDir, f_sos, f_eos, f_openCount, a_text, a_breakAfter, a_partner, a_level, a_type, a_prevKept, a_nextKept, a_implicit, a_pair, a_valid, a_taken, a_stackLevel, a_stackOverride, a_stackIsolate, a_seq, a_kind, a_mate, a_openAt, a_wasMark, a_lineFirst, a_lineSlot, lv, a_order, a_place)) :
    ∀ (m : Nat) (lv : Nat → Int32), m ≤ N → (∀ j, m ≤ j → j < N → lv j = bi_lv a_text a_breakAfter N f_paragraph a_implicit j) →
      wX_setLineLevels_9 post f_cap f_depth f_size f_paragraph f_lines f_resolved f_top f_overflowIsolates f_overflowEmbeddings f_validIsolates f_seqLen f_seqLevel f_runDir f_sos f_eos f_openCount (m + 1) (bi_b (bi_tr a_text a_breakAfter N m)) (nI m + (-1)) a_text a_breakAfter a_partner a_level a_type a_prevKept a_nextKept a_implicit a_pair a_valid a_taken a_stackLevel a_stackOverride a_stackIsolate a_seq a_kind a_mate a_openAt a_wasMark a_lineFirst a_lineSlot lv a_order a_place := by
  intro m
  induction m with
  | zero =>
    intro lv _ h
    exact br_t (by decide) (hC lv (fun j hj => h j (by omega) hj))
  | succ m ih =>
    intro lv hm h
    rw [pk_m1]
    refine bx_sll_step (by omega) ?_
    have e := bi_tr_eq (T := a_text) (K := a_breakAfter) (N := N) (j := m) (by omega)
    rw [← e]
    refine ih _ (by omega) (fun j h1 h2 => ?_)
    by_cases z : j = m
    · subst z
      rw [pk_us]; rfl
    · rw [pk_un z]
      exact h j (by omega) h2
theorem bx_sll {post : SX → Prop} {N : Nat} (hN : N ≤ 32) (h0 : 0 < N)
    (hC : ∀ lv : Nat → Int32, (∀ j, j < N → lv j = bi_lv a_text a_breakAfter N f_paragraph a_implicit j) → post (f_cap, f_depth, nI N, f_paragraph, f_lines, f_resolved, f_top, f_overflowIsolates, f_overflowEmbeddings, f_validIsolates, f_seqLen, f_seqLevel, f_runDir, f_sos, f_eos, f_openCount, a_text, a_breakAfter, a_partner, a_level, a_type, a_prevKept, a_nextKept, a_implicit, a_pair, a_valid, a_taken, a_stackLevel, a_stackOverride, a_stackIsolate, a_seq, a_kind, a_mate, a_openAt, a_wasMark, a_lineFirst, a_lineSlot, lv, a_order, a_place)) : wpX_setLineLevels post (f_cap, f_depth, nI N, f_paragraph, f_lines, f_resolved, f_top, f_overflowIsolates, f_overflowEmbeddings, f_validIsolates, f_seqLen, f_seqLevel, f_runDir, f_sos, f_eos, f_openCount, a_text, a_breakAfter, a_partner, a_level, a_type, a_prevKept, a_nextKept, a_implicit, a_pair, a_valid, a_taken, a_stackLevel, a_stackOverride, a_stackIsolate, a_seq, a_kind, a_mate, a_openAt, a_wasMark, a_lineFirst, a_lineSlot, a_lineLv, a_order, a_place) := by
  refine nm_r (bi_sm1 (nI N)) (Exists.intro (N + 1) ?_)
  have := bx_sll_loop (f_size := nI N) hN hC N a_lineLv (Nat.le_refl _) (fun j h1 h2 => by omega)
  rw [bi_tr_end] at this
  exact this
theorem bx_rev_loop {post : SX → Prop} : ∀ (n x e : Nat) (od : Nat → Int32), e < n + x + 1 → 0 < n → e ≤ 32 → x ≤ 32 → post (f_cap, f_depth, f_size, f_paragraph, f_lines, f_resolved, f_top, f_overflowIsolates, f_overflowEmbeddings, f_validIsolates, f_seqLen, f_seqLevel, f_runDir, f_sos, f_eos, f_openCount, a_text, a_breakAfter, a_partner, a_level, a_type, a_prevKept, a_nextKept, a_implicit, a_pair, a_valid, a_taken, a_stackLevel, a_stackOverride, a_stackIsolate, a_seq, a_kind, a_mate, a_openAt, a_wasMark, a_lineFirst, a_lineSlot, a_lineLv, bi_rv od x e, a_place) → wX_reverse_5 post f_cap f_depth f_size f_paragraph f_lines f_resolved f_top f_overflowIsolates f_overflowEmbeddings f_validIsolates f_seqLen f_seqLevel f_runDir f_sos f_eos f_openCount n (nI x) (nI e - 1) a_text a_breakAfter a_partner a_level a_type a_prevKept a_nextKept a_implicit a_pair a_valid a_taken a_stackLevel a_stackOverride a_stackIsolate a_seq a_kind a_mate a_openAt a_wasMark a_lineFirst a_lineSlot a_lineLv od a_place := by
  intro n
  induction n with
  | zero => intro x e od _ h; omega
  | succ n ih =>
    intro x e od hn _ he hx k
    by_cases z : e ≤ x + 1
    · rw [bi_rv_0 z] at k
      refine br_t ?_ k
      by_cases e0 : e = 0
      · subst e0
        rw [Int32.le_iff_toInt_le, nI_toInt (by omega), show (nI 0 - 1).toInt = -1 by decide]
        omega
      · rw [bi_p1 (by omega)]
        exact nI_le (by omega) (by omega)
    · rw [bi_p1 (by omega)]
      refine br_f (nI_ge (by omega) (by omega)) ?_
      rw [nI_clamp (n := x) (by omega), nI_clamp (n := e - 1) (by omega)]
      have hvx := vp_in_nI (n := x) (N := 32) (by omega) (by omega)
      have hve := vp_in_nI (n := e - 1) (N := 32) (by omega) (by omega)
      refine And.intro hvx (nm_e (And.intro hve (And.intro hvx (nm_e (And.intro hve (nm_e (nm_r (nI_1 x) (nm_r (bi_sm1 (nI (e - 1))).symm (ih _ _ _ (by omega) (by omega) (by omega) (by omega) ?_)))))))))
      rw [bi_rv_s (by omega)]
      exact k
theorem bx_rev {post : SX → Prop} {x e : Nat} (hx : x ≤ 32) (he : e ≤ 32) (k : post (f_cap, f_depth, f_size, f_paragraph, f_lines, f_resolved, f_top, f_overflowIsolates, f_overflowEmbeddings, f_validIsolates, f_seqLen, f_seqLevel, f_runDir, f_sos, f_eos, f_openCount, a_text, a_breakAfter, a_partner, a_level, a_type, a_prevKept, a_nextKept, a_implicit, a_pair, a_valid, a_taken, a_stackLevel, a_stackOverride, a_stackIsolate, a_seq, a_kind, a_mate, a_openAt, a_wasMark, a_lineFirst, a_lineSlot, a_lineLv, bi_rv a_order x e, a_place)) : wpX_reverse post (f_cap, f_depth, f_size, f_paragraph, f_lines, f_resolved, f_top, f_overflowIsolates, f_overflowEmbeddings, f_validIsolates, f_seqLen, f_seqLevel, f_runDir, f_sos, f_eos, f_openCount, a_text, a_breakAfter, a_partner, a_level, a_type, a_prevKept, a_nextKept, a_implicit, a_pair, a_valid, a_taken, a_stackLevel, a_stackOverride, a_stackIsolate, a_seq, a_kind, a_mate, a_openAt, a_wasMark, a_lineFirst, a_lineSlot, a_lineLv, a_order, a_place) (nI x) (nI e - 1) :=
  Exists.intro 34 (bx_rev_loop 34 x e a_order (by omega) (by omega) he hx k)
theorem bx_runs_loop {post : SX → Prop} {a b l : Nat} {g h : Nat → Nat} {od : Nat → Int32} (hb : b ≤ 32) (hl : l < 2 ^ 31) (hg : ∀ u, a ≤ u → u < b → od u = nI (g u) ∧ g u < 32 ∧ a_lineLv (g u) = nI (h u) ∧ h u < 2 ^ 31)
    (hC : ∀ (od' : Nat → Int32) (ρ : Nat → Nat), bi_Rho (fun u => l ≤ h u) a b ρ → (∀ s, a ≤ s → s < b → od' s = od (ρ s)) → (∀ s, ¬ (a ≤ s ∧ s < b) → od' s = od s) → post (f_cap, f_depth, f_size, f_paragraph, f_lines, f_resolved, f_top, f_overflowIsolates, f_overflowEmbeddings, f_validIsolates, f_seqLen, f_seqLevel, f_runDir, f_sos, f_eos, f_openCount, a_text, a_breakAfter, a_partner, a_level, a_type, a_prevKept, a_nextKept, a_implicit, a_pair, a_valid, a_taken, a_stackLevel, a_stackOverride, a_stackIsolate, a_seq, a_kind, a_mate, a_openAt, a_wasMark, a_lineFirst, a_lineSlot, a_lineLv, od', a_place)) :
    ∀ (n c s : Nat) (od' : Nat → Int32) (ρ : Nat → Nat), b + 1 - s < n → a ≤ c → c ≤ s → s ≤ b → bi_Rho (fun u => l ≤ h u) a c ρ → (c = a ∨ ¬ l ≤ h (c - 1)) → (∀ u, c ≤ u → u < s → l ≤ h u) → (∀ s, a ≤ s → s < c → od' s = od (ρ s)) → (∀ s, ¬ (a ≤ s ∧ s < c) → od' s = od s) →
      wX_reverseRuns_6 post (nI l) (nI b) n (nI c) (nI s) f_cap f_depth f_size f_paragraph f_lines f_resolved f_top f_overflowIsolates f_overflowEmbeddings f_validIsolates f_seqLen f_seqLevel f_runDir f_sos f_eos f_openCount a_text a_breakAfter a_partner a_level a_type a_prevKept a_nextKept a_implicit a_pair a_valid a_taken a_stackLevel a_stackOverride a_stackIsolate a_seq a_kind a_mate a_openAt a_wasMark a_lineFirst a_lineSlot a_lineLv od' a_place := by
  intro n
  induction n with
  | zero => intro c s od' ρ h1; omega
  | succ n ih =>
    intro c s od' ρ hn hac hcs hsb hR hsep hP ho hoo
    have hR' := bi_rho_run hR hac hsep hcs hP
    have e1 : ∀ x, a ≤ x → x < s → bi_rv od' c s x = od (bi_ext ρ c s x) := by
      intro x x1 x2
      by_cases z : x < c
      · rw [bi_rv_out (by omega), show bi_ext ρ c s x = ρ x from if_pos z]
        exact ho x x1 z
      · rw [bi_rv_in (by omega) x2, hoo _ (by omega)]
        congr 1
        unfold bi_ext
        rw [if_neg z, if_pos x2]
    have e2 : ∀ x, ¬ (a ≤ x ∧ x < s) → bi_rv od' c s x = od x := by
      intro x hx
      rw [bi_rv_out (by omega)]
      exact hoo x (by omega)
    refine br_f (nI_nlt (by omega) (by omega)) ?_
    by_cases z : b ≤ s
    · have es : s = b := by omega
      subst es
      refine br_t (nI_le (by omega) (by omega)) (bx_rev (by omega) (by omega) (nm_r (nI_1 s) (nm_r (nI_1 s) ?_)))
      obtain ⟨m, rfl⟩ : ∃ m, n = m + 1 := ⟨n - 1, by omega⟩
      exact br_t (nI_lt (by omega) (by omega)) (hC _ _ hR' e1 e2)
    · refine br_f (nI_ge (by omega) (by omega)) ?_
      obtain ⟨g1, g2, g3, g4⟩ := hg s (by omega) (by omega)
      rw [nI_clamp (n := s) (by omega), hoo s (by omega), g1, nI_clamp (n := g s) (by omega), g3]
      refine And.intro (vp_in_nI (by omega) (by omega)) (And.intro (vp_in_nI (by omega) (by omega)) ?_)
      by_cases p : l ≤ h s
      · refine br_f (nI_nlt p g4) (nm_r (nI_1 s) (ih c (s + 1) od' ρ (by omega) hac (by omega) (by omega) hR hsep (fun u u1 u2 => ?_) ho hoo))
        by_cases q : u = s
        · subst q; exact p
        · exact hP u u1 (by omega)
      · refine br_t (nI_lt (by omega) (by omega)) (bx_rev (by omega) (by omega) (nm_r (nI_1 s) (nm_r (nI_1 s) ?_)))
        have e3 : bi_ext ρ c s s = s := by
          unfold bi_ext
          rw [if_neg (by omega), if_neg (by omega)]
        refine ih (s + 1) (s + 1) _ (bi_ext ρ c s) (by omega) (by omega) (by omega) (by omega) (bi_rho_one hR' e3 p) (Or.inr p) (fun u u1 u2 => by omega) (fun x x1 x2 => ?_) (fun x hx => ?_)
        · by_cases q : x = s
          · subst q
            rw [e3]
            exact e2 _ (by omega)
          · exact e1 x x1 (by omega)
        · exact e2 x (by omega)
theorem bx_runs {post : SX → Prop} {a b l : Nat} {g h : Nat → Nat} (hab : a ≤ b) (hb : b ≤ 32) (hl : l < 2 ^ 31) (hg : ∀ u, a ≤ u → u < b → a_order u = nI (g u) ∧ g u < 32 ∧ a_lineLv (g u) = nI (h u) ∧ h u < 2 ^ 31)
    (hC : ∀ (od' : Nat → Int32) (ρ : Nat → Nat), bi_Rho (fun u => l ≤ h u) a b ρ → (∀ s, a ≤ s → s < b → od' s = a_order (ρ s)) → (∀ s, ¬ (a ≤ s ∧ s < b) → od' s = a_order s) → post (f_cap, f_depth, f_size, f_paragraph, f_lines, f_resolved, f_top, f_overflowIsolates, f_overflowEmbeddings, f_validIsolates, f_seqLen, f_seqLevel, f_runDir, f_sos, f_eos, f_openCount, a_text, a_breakAfter, a_partner, a_level, a_type, a_prevKept, a_nextKept, a_implicit, a_pair, a_valid, a_taken, a_stackLevel, a_stackOverride, a_stackIsolate, a_seq, a_kind, a_mate, a_openAt, a_wasMark, a_lineFirst, a_lineSlot, a_lineLv, od', a_place)) :
    wpX_reverseRuns post (f_cap, f_depth, f_size, f_paragraph, f_lines, f_resolved, f_top, f_overflowIsolates, f_overflowEmbeddings, f_validIsolates, f_seqLen, f_seqLevel, f_runDir, f_sos, f_eos, f_openCount, a_text, a_breakAfter, a_partner, a_level, a_type, a_prevKept, a_nextKept, a_implicit, a_pair, a_valid, a_taken, a_stackLevel, a_stackOverride, a_stackIsolate, a_seq, a_kind, a_mate, a_openAt, a_wasMark, a_lineFirst, a_lineSlot, a_lineLv, a_order, a_place) (nI l) (nI a) (nI b) :=
  Exists.intro 35 (bx_runs_loop hb hl hg hC 35 a a a_order (fun s => s) (by omega) (by omega) (by omega) hab (bi_rho_0 _ _ _) (Or.inl rfl) (fun u u1 u2 => by omega) (fun s s1 s2 => by omega) (fun s _ => rfl))
end
end
section
/-! the component's lines: visual order -/
theorem bi_rho_congr {P P' : Nat → Prop} {a b : Nat} {ρ : Nat → Nat} (e : ∀ u, a ≤ u → u < b → (P u ↔ P' u)) (h : bi_Rho P a b ρ) : bi_Rho P' a b ρ := by
  refine ⟨fun s h1 h2 => ?_, fun s t h1 h2 h3 => ?_⟩
  · obtain ⟨r1, r2, r3, r4, r5⟩ := h.1 s h1 h2
    refine ⟨r1, r2, r3, fun z => r4 (fun q => z ((e s h1 h2).mp q)), fun u hp hu => ?_⟩
    exact (e u (by unfold bi_bt at hu; omega) (by unfold bi_bt at hu; omega)).mp (r5 u ((e s h1 h2).mpr hp) hu)
  · obtain ⟨q1, q2⟩ := h.2 s t h1 h2 h3
    exact ⟨fun f => q1 (fun u u1 u2 => (e u (by omega) (by omega)).mpr (f u u1 u2)), fun f => q2 (fun g => f (fun u u1 u2 => (e u (by omega) (by omega)).mp (g u u1 u2)))⟩
theorem bi_ord_inj {M : Nat → Nat → Nat} {a b l : Nat} {σ : Nat → Nat} (ho : bi_Ord M a b l σ) {s t : Nat} (s1 : a ≤ s) (s2 : s < b) (t1 : a ≤ t) (t2 : t < b) (e : σ s = σ t) : s = t := by
  by_cases z : s = t
  · exact z
  · have h1 := ho.2.2.2 s t s1 s2 t1 t2 z
    have h2 := ho.2.2.2 t s t1 t2 s1 s2 (fun q => z q.symm)
    rw [e] at h1 h2
    have : s < t ↔ t < s := h1.trans h2.symm
    omega
def bi_M (T : Nat → Int32) (N : Nat) (lv : Nat → Nat) (p q : Nat) : Nat := if p ≤ q then bi_mn T lv (bi_ps T N p) (bi_ps T N q - bi_ps T N p) else bi_mn T lv (bi_ps T N q) (bi_ps T N p - bi_ps T N q)
theorem bi_ps_lt {T : Nat → Int32} {N p q : Nat} (hq : q < bi_rc T N) (h : p < q) : bi_ps T N p < bi_ps T N q := by
  obtain ⟨a1, a2, a3⟩ := bi_ps_spec (T := T) (N := N) (s := p) (by omega)
  obtain ⟨b1, b2, b3⟩ := bi_ps_spec (T := T) (N := N) (s := q) hq
  rcases Nat.lt_or_ge (bi_ps T N p) (bi_ps T N q) with z | z
  · exact z
  · have := bi_rc_mono T z
    omega
theorem bi_ps_inj {T : Nat → Int32} {N p q : Nat} (hp : p < bi_rc T N) (hq : q < bi_rc T N) (h : bi_ps T N p = bi_ps T N q) : p = q := by
  rcases Nat.lt_trichotomy p q with z | z | z
  · have := bi_ps_lt hq z; omega
  · exact z
  · have := bi_ps_lt hp z; omega
theorem bi_mn_ps {T : Nat → Int32} {N : Nat} {lv : Nat → Nat} {p q l : Nat} (hq : q < bi_rc T N) (h : p ≤ q) : l ≤ bi_mn T lv (bi_ps T N p) (bi_ps T N q - bi_ps T N p) ↔ ∀ u, p ≤ u → u ≤ q → l ≤ lv (bi_ps T N u) := by
  rw [bi_mn_le]
  have hpq : bi_ps T N p ≤ bi_ps T N q := by
    rcases Nat.lt_or_ge p q with z | z
    · exact Nat.le_of_lt (bi_ps_lt hq z)
    · have : p = q := by omega
      subst this; exact Nat.le_refl _
  constructor
  · intro f u u1 u2
    by_cases z : u = p
    · subst z; exact f.1
    · have h1 := bi_ps_lt (T := T) (N := N) (p := p) (q := u) (by omega) (by omega)
      have h2 : bi_ps T N u ≤ bi_ps T N q := by
        rcases Nat.lt_or_ge u q with z | z
        · exact Nat.le_of_lt (bi_ps_lt hq z)
        · have : u = q := by omega
          subst this; exact Nat.le_refl _
      exact f.2 _ h1 (by omega) (bi_ps_spec (by omega)).2.1
  · intro f
    refine ⟨f p (Nat.le_refl _) h, fun j h1 h2 hr => ?_⟩
    have b := (bi_ps_spec (T := T) (N := N) (s := q) hq)
    have a := (bi_ps_spec (T := T) (N := N) (s := p) (by omega))
    have e := bi_ps_rc (T := T) (i := j) hr (N := N) (by omega)
    rw [← e]
    have m1 := bi_rc_mono T (i := bi_ps T N p) (j := j) (by omega)
    have m2 := bi_rc_mono T (i := j) (j := bi_ps T N q) (by omega)
    exact f _ (by omega) (by omega)
theorem bi_M_MW {T : Nat → Int32} {N : Nat} {lv : Nat → Nat} {a b : Nat} (hb : b ≤ bi_rc T N) : bi_MW (bi_M T N lv) (fun u => lv (bi_ps T N u)) a b := by
  intro p q p1 p2 q1 q2 l
  unfold bi_M
  by_cases z : p ≤ q
  · rw [if_pos z, bi_mn_ps (by omega) z]
    exact ⟨fun f u hu => f u (by unfold bi_bt at hu; omega) (by unfold bi_bt at hu; omega), fun f u u1 u2 => f u (Or.inl ⟨u1, u2⟩)⟩
  · rw [if_neg z, bi_mn_ps (by omega) (by omega)]
    exact ⟨fun f u hu => f u (by unfold bi_bt at hu; omega) (by unfold bi_bt at hu; omega), fun f u u1 u2 => f u (Or.inr ⟨u1, u2⟩)⟩
def bi_Blk (T : Nat → Int32) (N : Nat) (lv : Nat → Nat) (a b : Nat) (od pl : Nat → Int32) : Prop :=
  ∃ σ : Nat → Nat, bi_Ord (bi_M T N lv) a b 1 σ ∧ ∀ s, a ≤ s → s < b → od s = nI (bi_ps T N (σ s)) ∧ pl (bi_ps T N (σ s)) = nI (s - a)
section
variable {f_cap f_depth f_size f_paragraph f_lines f_resolved f_top f_overflowIsolates f_overflowEmbeddings f_validIsolates f_seqLen f_seqLevel f_runDir f_sos f_eos f_openCount : Int32} {a_text a_breakAfter a_partner a_level a_type a_prevKept a_nextKept a_implicit a_pair a_valid a_taken a_stackLevel a_stackOverride a_stackIsolate a_seq a_kind a_mate a_openAt a_wasMark a_lineFirst a_lineSlot a_lineLv a_order a_place : Nat → Int32}
theorem bx_place_loop {post : SX → Prop} {a b : Nat} {q : Nat → Nat} (hb : b ≤ 32) (hq : ∀ u, a ≤ u → u < b → a_order u = nI (q u) ∧ q u < 32) (hi : ∀ u v, a ≤ u → u < b → a ≤ v → v < b → q u = q v → u = v)
    (hC : ∀ pl : Nat → Int32, (∀ u, a ≤ u → u < b → pl (q u) = nI (u - a)) → (∀ p, (∀ u, a ≤ u → u < b → p ≠ q u) → pl p = a_place p) → post (f_cap, f_depth, f_size, f_paragraph, f_lines, f_resolved, f_top, f_overflowIsolates, f_overflowEmbeddings, f_validIsolates, f_seqLen, f_seqLevel, f_runDir, f_sos, f_eos, f_openCount, a_text, a_breakAfter, a_partner, a_level, a_type, a_prevKept, a_nextKept, a_implicit, a_pair, a_valid, a_taken, a_stackLevel, a_stackOverride, a_stackIsolate, a_seq, a_kind, a_mate, a_openAt, a_wasMark, a_lineFirst, a_lineSlot, a_lineLv, a_order, pl)) :
    ∀ (n s : Nat) (pl : Nat → Int32), b - s < n → a ≤ s → s ≤ b → (∀ u, a ≤ u → u < s → pl (q u) = nI (u - a)) → (∀ p, (∀ u, a ≤ u → u < s → p ≠ q u) → pl p = a_place p) →
      wX_reorder_27 post (nI a) (nI b) f_cap f_depth f_size f_paragraph f_lines f_resolved f_top f_overflowIsolates f_overflowEmbeddings f_validIsolates f_seqLen f_seqLevel f_runDir f_sos f_eos f_openCount n (nI s) a_text a_breakAfter a_partner a_level a_type a_prevKept a_nextKept a_implicit a_pair a_valid a_taken a_stackLevel a_stackOverride a_stackIsolate a_seq a_kind a_mate a_openAt a_wasMark a_lineFirst a_lineSlot a_lineLv a_order pl := by
  intro n
  induction n with
  | zero => intro s pl h; omega
  | succ n ih =>
    intro s pl hn ha hsb h1 h2
    by_cases z : b ≤ s
    · have e : s = b := by omega
      subst e
      exact br_t (nI_le (by omega) (by omega)) (hC pl h1 h2)
    · obtain ⟨q1, q2⟩ := hq s ha (by omega)
      refine br_f (nI_ge (by omega) (by omega)) ?_
      rw [nI_clamp (n := s) (by omega), q1, nI_clamp (n := q s) (by omega), pk_sub ha]
      refine And.intro (vp_in_nI (by omega) (by omega)) (And.intro (vp_in_nI q2 (by omega)) (nm_e (nm_r (nI_1 s) (ih (s + 1) _ (by omega) (by omega) (by omega) (fun u u1 u2 => ?_) (fun p hp => ?_)))))
      · by_cases e : u = s
        · rw [e, pk_us]
        · rw [pk_un (fun z => e (hi u s u1 (by omega) ha (by omega) z))]
          exact h1 u u1 (by omega)
      · rw [pk_un (hp s ha (by omega))]
        exact h2 p (fun u u1 u2 => hp u u1 (by omega))
theorem bx_reorder_loop {post : SX → Prop} {a b : Nat} {M : Nat → Nat → Nat} {w o0 : Nat → Nat} (hM : bi_MW M w a b) (hab : a ≤ b) (hb : b ≤ 32)
    (hw : ∀ u, a ≤ u → u < b → o0 u < 32 ∧ a_lineLv (o0 u) = nI (w u) ∧ w u < 2 ^ 31) (hi : ∀ u v, a ≤ u → u < b → a ≤ v → v < b → o0 u = o0 v → u = v)
    (hC : ∀ (od pl : Nat → Int32) (σ : Nat → Nat), bi_Ord M a b 1 σ → (∀ s, a ≤ s → s < b → od s = nI (o0 (σ s))) → (∀ s, ¬ (a ≤ s ∧ s < b) → od s = a_order s) → (∀ s, a ≤ s → s < b → pl (o0 (σ s)) = nI (s - a)) → (∀ p, (∀ u, a ≤ u → u < b → p ≠ o0 u) → pl p = a_place p) → post (f_cap, f_depth, f_size, f_paragraph, f_lines, f_resolved, f_top, f_overflowIsolates, f_overflowEmbeddings, f_validIsolates, f_seqLen, f_seqLevel, f_runDir, f_sos, f_eos, f_openCount, a_text, a_breakAfter, a_partner, a_level, a_type, a_prevKept, a_nextKept, a_implicit, a_pair, a_valid, a_taken, a_stackLevel, a_stackOverride, a_stackIsolate, a_seq, a_kind, a_mate, a_openAt, a_wasMark, a_lineFirst, a_lineSlot, a_lineLv, od, pl)) :
    ∀ (l : Nat) (od : Nat → Int32) (σ : Nat → Nat), l < 2 ^ 31 → bi_Ord M a b (l + 1) σ → (∀ s, a ≤ s → s < b → od s = nI (o0 (σ s))) → (∀ s, ¬ (a ≤ s ∧ s < b) → od s = a_order s) →
      wX_reorder_7 post (nI a) (nI b) (l + 1) (nI l) f_cap f_depth f_size f_paragraph f_lines f_resolved f_top f_overflowIsolates f_overflowEmbeddings f_validIsolates f_seqLen f_seqLevel f_runDir f_sos f_eos f_openCount a_text a_breakAfter a_partner a_level a_type a_prevKept a_nextKept a_implicit a_pair a_valid a_taken a_stackLevel a_stackOverride a_stackIsolate a_seq a_kind a_mate a_openAt a_wasMark a_lineFirst a_lineSlot a_lineLv od a_place := by
  intro l
  induction l with
  | zero =>
    intro od σ _ ho h1 h2
    refine br_t (by decide) (Exists.intro (b - a + 1) (bx_place_loop (q := fun u => o0 (σ u)) hb (fun u u1 u2 => ⟨h1 u u1 u2, (hw _ (ho.1 u u1 u2).1 (ho.1 u u1 u2).2).1⟩) (fun u v u1 u2 v1 v2 e => ?_) (fun pl p1 p2 => hC od pl σ ho h1 h2 p1 (fun p hp => p2 p (fun u u1 u2 => hp _ (ho.1 u u1 u2).1 (ho.1 u u1 u2).2))) (b - a + 1) a a_place (by omega) (Nat.le_refl _) hab (fun u u1 u2 => by omega) (fun p _ => rfl)))
    exact bi_ord_inj ho u1 u2 v1 v2 (hi _ _ (ho.1 u u1 u2).1 (ho.1 u u1 u2).2 (ho.1 v v1 v2).1 (ho.1 v v1 v2).2 e)
  | succ l ih =>
    intro od σ hl ho h1 h2
    have hlt : ¬ nI (l + 1) < 1 := nI_nlt (b := 1) (by omega) hl
    refine br_f hlt (bx_runs (g := fun u => o0 (σ u)) (h := fun u => w (σ u)) hab hb hl (fun u u1 u2 => ?_) (fun od' ρ r h3 h4 => ?_))
    · obtain ⟨s1, s2⟩ := ho.1 u u1 u2
      obtain ⟨w1, w2, w3⟩ := hw _ s1 s2
      exact ⟨h1 u u1 u2, w1, w2, w3⟩
    · refine nm_r (pk_m1 l) ?_
      have r' : bi_Rho (fun u => l + 1 ≤ w u) a b ρ := bi_rho_congr (fun u u1 u2 => bi_ord_lv hM ho u1 u2) r
      refine ih od' (fun s => σ (ρ s)) (by omega) (bi_ord_step hM ho r') (fun s s1 s2 => ?_) (fun s hs => ?_)
      · rw [h3 s s1 s2]
        obtain ⟨r1, r2, _⟩ := r.1 s s1 s2
        exact h1 _ r1 r2
      · rw [h4 s hs]
        exact h2 s hs
theorem bx_lay_loop {post : SX → Prop} {N D : Nat} {lv : Nat → Nat} (hN : N ≤ 32) (hD : D ≤ 12) (hK : ∀ l, l ≤ bi_ln a_breakAfter N → bi_fs a_breakAfter N l < N)
    (hls : ∀ l, l ≤ bi_ln a_breakAfter N + 1 → a_lineSlot l = nI (bi_rc a_text (bi_fs a_breakAfter N l)))
    (hlv : ∀ i, i < N → ¬ bi_R (a_text i) → a_lineLv i = nI (lv i) ∧ lv i ≤ D + 2)
    (hC : ∀ od pl : Nat → Int32, (∀ l, l ≤ bi_ln a_breakAfter N → bi_Blk a_text N lv (bi_rc a_text (bi_fs a_breakAfter N l)) (bi_rc a_text (bi_fs a_breakAfter N (l + 1))) od pl) → (∀ p, (∀ u, u < bi_rc a_text N → p ≠ bi_ps a_text N u) → pl p = a_place p) → post (f_cap, nI D, f_size, f_paragraph, nI (bi_ln a_breakAfter N + 1), f_resolved, f_top, f_overflowIsolates, f_overflowEmbeddings, f_validIsolates, f_seqLen, f_seqLevel, f_runDir, f_sos, f_eos, f_openCount, a_text, a_breakAfter, a_partner, a_level, a_type, a_prevKept, a_nextKept, a_implicit, a_pair, a_valid, a_taken, a_stackLevel, a_stackOverride, a_stackIsolate, a_seq, a_kind, a_mate, a_openAt, a_wasMark, a_lineFirst, a_lineSlot, a_lineLv, od, pl)) :
    ∀ (n l : Nat) (od pl : Nat → Int32), bi_ln a_breakAfter N + 1 - l < n → l ≤ bi_ln a_breakAfter N + 1 → (∀ l', l' < l → bi_Blk a_text N lv (bi_rc a_text (bi_fs a_breakAfter N l')) (bi_rc a_text (bi_fs a_breakAfter N (l' + 1))) od pl) → (∀ s, bi_rc a_text (bi_fs a_breakAfter N l) ≤ s → s < bi_rc a_text N → od s = nI (bi_ps a_text N s)) → (∀ p, (∀ u, u < bi_rc a_text N → p ≠ bi_ps a_text N u) → pl p = a_place p) →
      wX_layOutLines_10 post n (nI l) f_cap (nI D) f_size f_paragraph (nI (bi_ln a_breakAfter N + 1)) f_resolved f_top f_overflowIsolates f_overflowEmbeddings f_validIsolates f_seqLen f_seqLevel f_runDir f_sos f_eos f_openCount a_text a_breakAfter a_partner a_level a_type a_prevKept a_nextKept a_implicit a_pair a_valid a_taken a_stackLevel a_stackOverride a_stackIsolate a_seq a_kind a_mate a_openAt a_wasMark a_lineFirst a_lineSlot a_lineLv od pl := by
  have hln : bi_ln a_breakAfter N < N := by
    have h1 := hK _ (Nat.le_refl _)
    have h2 := bi_fs_ln h1
    have h3 := bi_ln_le a_breakAfter (bi_fs a_breakAfter N (bi_ln a_breakAfter N))
    omega
  have mono : ∀ l l', l ≤ l' → bi_rc a_text (bi_fs a_breakAfter N l) ≤ bi_rc a_text (bi_fs a_breakAfter N l') := by
    intro l l' h
    refine bi_rc_mono _ ?_
    rcases Nat.lt_or_ge (bi_fs a_breakAfter N l') (bi_fs a_breakAfter N l) with z | z
    · have h1 := bi_fs_spec a_breakAfter l N
      have h2 := bi_fs_spec a_breakAfter l' N
      have h3 := h1.2 (bi_fs a_breakAfter N l') (by omega)
      have h4 := h2.2 (bi_fs a_breakAfter N l') (by omega)
      omega
    · exact z
  have top : ∀ l, bi_rc a_text (bi_fs a_breakAfter N l) ≤ bi_rc a_text N := fun l => bi_rc_mono _ (bi_fs_spec a_breakAfter l N).1
  have hrN := bi_rc_le a_text N
  intro n
  induction n with
  | zero => intro l od pl h; omega
  | succ n ih =>
    intro l od pl hn hl h1 h2 h3
    by_cases z : bi_ln a_breakAfter N + 1 ≤ l
    · exact br_t (nI_le z (by omega)) (hC od pl (fun l' h => h1 l' (by omega)) h3)
    · refine br_f (nI_ge (by omega) (by omega)) ?_
      rw [nI_1, nI_clamp (n := l) (by omega), nI_clamp (n := l + 1) (by omega), hls l (by omega), hls (l + 1) (by omega)]
      refine And.intro (vp_in_nI (by omega) (by omega)) (And.intro (vp_in_nI (by omega) (by omega)) ?_)
      have m1 := mono l (l + 1) (by omega)
      have m2 := top (l + 1)
      have hM : bi_MW (bi_M a_text N lv) (fun u => lv (bi_ps a_text N u)) (bi_rc a_text (bi_fs a_breakAfter N l)) (bi_rc a_text (bi_fs a_breakAfter N (l + 1))) := bi_M_MW m2
      have sp : ∀ u, u < bi_rc a_text N → bi_ps a_text N u < N ∧ ¬ bi_R (a_text (bi_ps a_text N u)) ∧ bi_rc a_text (bi_ps a_text N u) = u := fun u hu => bi_ps_spec hu
      refine nm_r (e' := nI (D + 2)) (nI_add D 2) (Exists.intro (D + 3) (bx_reorder_loop (M := bi_M a_text N lv) (w := fun u => lv (bi_ps a_text N u)) (o0 := bi_ps a_text N) hM m1 (by omega) (fun u u1 u2 => ?_) (fun u v u1 u2 v1 v2 e => bi_ps_inj (by omega) (by omega) e) (fun od' pl' σ o1 o2 o3 o4 o5 => ?_) (D + 2) od (fun s => s) (by omega) (bi_ord_0 (fun p q p1 p2 q1 q2 => ?_)) (fun s s1 s2 => h2 s s1 (by omega)) (fun s _ => rfl)))
      · obtain ⟨a1, a2, a3⟩ := sp u (by omega)
        obtain ⟨b1, b2⟩ := hlv _ a1 a2
        exact ⟨by omega, b1, by omega⟩
      · refine nm_e (ih (l + 1) od' pl' (by omega) (by omega) (fun l' hl' => ?_) (fun s s1 s2 => ?_) (fun p hp => ?_))
        · by_cases e : l' = l
          · subst e
            exact ⟨σ, o1, fun s s1 s2 => ⟨o2 s s1 s2, o4 s s1 s2⟩⟩
          · obtain ⟨τ, t1, t2⟩ := h1 l' (by omega)
            have m3 := mono (l' + 1) l (by omega)
            refine ⟨τ, t1, fun s s1 s2 => ?_⟩
            obtain ⟨t3, t4⟩ := t2 s s1 s2
            obtain ⟨t5, t6⟩ := t1.1 s s1 s2
            refine ⟨by rw [o3 s (by omega)]; exact t3, ?_⟩
            rw [o5 _ (fun u u1 u2 e => ?_)]
            · exact t4
            · have := bi_ps_inj (by omega) (by omega) e
              omega
        · rw [o3 s (by omega)]
          exact h2 s (by omega) s2
        · rw [o5 p (fun u u1 u2 => hp u (by omega))]
          exact h3 p hp
      · obtain ⟨a1, a2, a3⟩ := sp p (by omega)
        obtain ⟨b1, b2⟩ := hlv _ a1 a2
        have := (hM p q p1 p2 q1 q2 (bi_M a_text N lv p q)).mp (Nat.le_refl _) p (by unfold bi_bt; omega)
        have this : bi_M a_text N lv p q ≤ lv (bi_ps a_text N p) := this
        omega
theorem bx_layout {post : SX → Prop} {N D : Nat} {lv : Nat → Nat} (hN : N ≤ 32) (h0 : 0 < N) (hD : D ≤ 12) (hK : a_breakAfter (N - 1) = 0)
    (hlv : ∀ i, i < N → ¬ bi_R (a_text i) → bi_lv a_text a_breakAfter N f_paragraph a_implicit i = nI (lv i) ∧ lv i ≤ D + 2)
    (hC : ∀ lf ls ll od pl : Nat → Int32, (∀ l, l ≤ bi_ln a_breakAfter N → lf l = nI (bi_fs a_breakAfter N l)) → (∀ l, l ≤ bi_ln a_breakAfter N + 1 → ls l = nI (bi_rc a_text (bi_fs a_breakAfter N l))) → (∀ i, i < N → ll i = bi_lv a_text a_breakAfter N f_paragraph a_implicit i) →
      (∀ l, l ≤ bi_ln a_breakAfter N → bi_Blk a_text N lv (bi_rc a_text (bi_fs a_breakAfter N l)) (bi_rc a_text (bi_fs a_breakAfter N (l + 1))) od pl) → (∀ i, i < N → bi_R (a_text i) → pl i = a_place i) → post (f_cap, nI D, nI N, f_paragraph, nI (bi_ln a_breakAfter N + 1), f_resolved, f_top, f_overflowIsolates, f_overflowEmbeddings, f_validIsolates, f_seqLen, f_seqLevel, f_runDir, f_sos, f_eos, f_openCount, a_text, a_breakAfter, a_partner, a_level, a_type, a_prevKept, a_nextKept, a_implicit, a_pair, a_valid, a_taken, a_stackLevel, a_stackOverride, a_stackIsolate, a_seq, a_kind, a_mate, a_openAt, a_wasMark, lf, ls, ll, od, pl)) :
    wpX_layOutLines post (f_cap, nI D, nI N, f_paragraph, f_lines, f_resolved, f_top, f_overflowIsolates, f_overflowEmbeddings, f_validIsolates, f_seqLen, f_seqLevel, f_runDir, f_sos, f_eos, f_openCount, a_text, a_breakAfter, a_partner, a_level, a_type, a_prevKept, a_nextKept, a_implicit, a_pair, a_valid, a_taken, a_stackLevel, a_stackOverride, a_stackIsolate, a_seq, a_kind, a_mate, a_openAt, a_wasMark, a_lineFirst, a_lineSlot, a_lineLv, a_order, a_place) := by
  unfold wpX_layOutLines
  refine bx_split hN h0 hK (fun lf ls od h1 h2 h3 => ?_)
  refine bx_sll hN h0 (fun ll h4 => ?_)
  refine Exists.intro (bi_ln a_breakAfter N + 2) (bx_lay_loop (lv := lv) hN hD (fun l hl => bi_fs_lt h0 hK hl) h2 (fun i hi hr => ?_) (fun od' pl' h5 h6 => hC lf ls ll od' pl' h1 h2 h4 h5 (fun i hi hr => h6 i (fun u hu e => ?_))) (bi_ln a_breakAfter N + 2) 0 od a_place (by omega) (by omega) (fun l' h => by omega) (fun s _ hs => h3 s hs) (fun p _ => rfl))
  · rw [h4 i hi]
    exact hlv i hi hr
  · have := (bi_ps_spec hu).2.1
    rw [← e] at this
    exact this hr
end
end
section
/-! the reference's lines -/
theorem bi_ln_add {K : Nat → Int32} {j : Nat} (h : K j = 0 ∨ K j = 1) : nI (bi_ln K j) + K j = nI (bi_ln K (j + 1)) := by
  simp only [bi_ln]
  rcases h with h | h
  · rw [h, if_pos rfl, Nat.add_zero, Int32.add_zero]
  · rw [h, if_neg (by decide), nI_1]
def bi_yl (T K : Nat → Int32) (N : Nat) (para : Int32) (res : Nat → Int32) (i : Nat) : Int32 := if bi_R (T i) then -1 else if bi_tr T K N i = true then para else res i
abbrev bi_lf (T K : Nat → Int32) (lv : Nat → Nat) (i j : Nat) : Prop := ¬ bi_R (T j) ∧ bi_ln K j = bi_ln K i ∧ j ≠ i ∧ ((if i ≤ j then bi_mn T lv i (j - i) else bi_mn T lv j (i - j)) % 2 = 0 ↔ j < i)
def bi_ct (T K : Nat → Int32) (lv : Nat → Nat) (i : Nat) : Nat → Nat
  | 0 => 0
  | j + 1 => bi_ct T K lv i j + (if bi_lf T K lv i j then 1 else 0)
theorem bi_ct_le (T K : Nat → Int32) (lv : Nat → Nat) (i : Nat) : ∀ j, bi_ct T K lv i j ≤ j
  | 0 => Nat.le_refl _
  | j + 1 => by
    have := bi_ct_le T K lv i j
    simp only [bi_ct]
    split <;> omega
theorem bi_mn_b {T : Nat → Int32} {w : Nat → Nat} {a : Nat} : ∀ d, bi_mn T w a d ≤ w a
  | 0 => Nat.le_refl _
  | d + 1 => by
    have := bi_mn_b (T := T) (w := w) (a := a) d
    simp only [bi_mn]
    split
    · exact this
    · split <;> omega
section
variable {g_cap g_depth g_len g_para g_count g_e g_way g_sos g_eos g_done : Int32} {b_text b_cut b_pair b_res b_level b_over b_type b_first b_seq b_open b_stLevel b_stOver b_stIso : Nat → Int32}
theorem by_lineOf_loop {post : Int32 → Prop} {i : Nat} (hi : i ≤ 32) (hK : ∀ j, b_cut j = 0 ∨ b_cut j = 1) (k : post (nI (bi_ln b_cut i))) : ∀ n j, j ≤ i → i - j < n → wY_lineOf_4 post (nI i) g_cap g_depth g_len g_para g_count g_e g_way g_sos g_eos g_done b_text b_cut b_pair b_res b_level b_over b_type b_first b_seq b_open b_stLevel b_stOver b_stIso n (nI (bi_ln b_cut j)) (nI j) := by
  intro n
  induction n with
  | zero => intro j h1 h2; omega
  | succ n ih =>
    intro j hj hn
    by_cases z : i ≤ j
    · have e : j = i := by omega
      subst e
      exact br_t (nI_le (by omega) (by omega)) k
    · refine br_f (nI_ge (by omega) (by omega)) (br_f (fun h => ?_) (And.intro (vp_in_nI (by omega) (by omega)) ?_))
      · have := (bi_32le (n := j) (by omega)).mp h
        omega
      · rw [nI_clamp (n := j) (by omega)]
        exact nm_r (bi_ln_add (hK j)) (nm_r (nI_1 j) (ih (j + 1) (by omega) (by omega)))
theorem by_lineOf {post : Int32 → Prop} {i : Nat} (hi : i ≤ 32) (hK : ∀ j, b_cut j = 0 ∨ b_cut j = 1) (k : post (nI (bi_ln b_cut i))) : wpY_lineOf post (g_cap, g_depth, g_len, g_para, g_count, g_e, g_way, g_sos, g_eos, g_done, b_text, b_cut, b_pair, b_res, b_level, b_over, b_type, b_first, b_seq, b_open, b_stLevel, b_stOver, b_stIso) (nI i) :=
  Exists.intro 33 (by_lineOf_loop hi hK k 33 0 (by omega) (by omega))
theorem by_refusal {post : Int32 → Prop} {i N : Nat} (hd : ¬ g_done = 0) (hN : N ≤ 32) (hi : i < N) (k : post 0) : wpY_refusal post (g_cap, g_depth, nI N, g_para, g_count, g_e, g_way, g_sos, g_eos, g_done, b_text, b_cut, b_pair, b_res, b_level, b_over, b_type, b_first, b_seq, b_open, b_stLevel, b_stOver, b_stIso) (nI i) :=
  br_f hd (br_f (nI_pos (by omega)) (br_t (nI_lt hi (by omega)) k))
theorem by_unseen {post : Int32 → Prop} {i N : Nat} (hd : ¬ g_done = 0) (hN : N ≤ 32) (hi : i < N) (k0 : ¬ bi_R (b_text i) → post 0) (k1 : bi_R (b_text i) → post (-1)) : wpY_unseen post (g_cap, g_depth, nI N, g_para, g_count, g_e, g_way, g_sos, g_eos, g_done, b_text, b_cut, b_pair, b_res, b_level, b_over, b_type, b_first, b_seq, b_open, b_stLevel, b_stOver, b_stIso) (nI i) := by
  unfold wpY_unseen
  refine by_refusal hd hN hi (br_t rfl (And.intro (vp_in_nI (by omega) (by omega)) ?_))
  rw [nI_clamp (n := i) (by omega)]
  exact by_ifR k0 k1
theorem by_ll_loop {post : Int32 → Prop} {i N : Nat} (hN : N ≤ 32) (hi : i < N) (hK : ∀ j, b_cut j = 0 ∨ b_cut j = 1) : ∀ n j, j ≤ N → N - j < n → post (if bi_tr b_text b_cut N j = true then g_para else b_res i) → wY_lineLevel_14 post (nI i) g_cap g_depth (nI N) g_para g_count g_e g_way g_sos g_eos g_done b_text b_cut b_pair b_res b_level b_over b_type b_first b_seq b_open b_stLevel b_stOver b_stIso n (nI j) := by
  intro n
  induction n with
  | zero => intro j h1 h2; omega
  | succ n ih =>
    intro j hj hn k
    by_cases z : N ≤ j
    · have e : j = N := by omega
      subst e
      rw [bi_tr_end, if_pos rfl] at k
      exact br_t (nI_le (by omega) (by omega)) k
    · refine br_f (nI_ge (by omega) (by omega)) (And.intro (vp_in_nI (by omega) (by omega)) ?_)
      rw [nI_clamp (n := j) (by omega)]
      refine nm_e ?_
      rw [bi_tr_eq (by omega)] at k
      have h98 : bi_bl (b_text j) → ¬ b_text j = 11 → ¬ b_text j = 10 → wY_lineLevel_98 post (wY_lineLevel_14 post (nI i) g_cap g_depth (nI N) g_para g_count g_e g_way g_sos g_eos g_done b_text b_cut b_pair b_res b_level b_over b_type b_first b_seq b_open b_stLevel b_stOver b_stIso n) (nI i) (nI j) g_cap g_depth (nI N) g_para g_count g_e g_way g_sos g_eos g_done b_text b_cut b_pair b_res b_level b_over b_type b_first b_seq b_open b_stLevel b_stOver b_stIso := by
        intro hb h1 h2
        have hn12 : ¬ (b_text j = 11 ∨ b_text j = 10) := fun z => z.elim h1 h2
        rw [if_neg hn12, if_pos hb] at k
        refine And.intro (vp_in_nI (by omega) (by omega)) ?_
        rw [nI_clamp (n := j) (by omega)]
        rcases hK j with q | q
        · rw [q, if_pos rfl] at k
          rw [q]
          exact br_f (by decide) (nm_r (nI_1 j) (ih (j + 1) (by omega) (by omega) k))
        · rw [q, if_neg (c := (1 : Int32) = 0) (by decide), if_pos rfl] at k
          rw [q]
          exact br_t rfl k
      have h56 : ∀ bl : Bool, (bl = true → bi_bl (b_text j)) → (bl = false → ¬ b_text j = 12 ∧ ¬ (¬ b_text j < 19 ∧ b_text j ≤ 22)) → wY_lineLevel_56 post (wY_lineLevel_14 post (nI i) g_cap g_depth (nI N) g_para g_count g_e g_way g_sos g_eos g_done b_text b_cut b_pair b_res b_level b_over b_type b_first b_seq b_open b_stLevel b_stOver b_stIso n) (nI i) (nI j) (b_text j) (bi_b bl) g_cap g_depth (nI N) g_para g_count g_e g_way g_sos g_eos g_done b_text b_cut b_pair b_res b_level b_over b_type b_first b_seq b_open b_stLevel b_stOver b_stIso := by
        intro bl hb hnb
        by_cases h1 : b_text j = 11
        · rw [if_pos (Or.inl h1)] at k
          exact br_t h1 k
        · refine br_f h1 ?_
          by_cases h2 : b_text j = 10
          · rw [if_pos (Or.inr h2)] at k
            exact br_t h2 k
          · refine br_f h2 (bi_bz bl (fun h => by_ifR (fun r => ?_) (fun r => h98 (Or.inr (Or.inr r)) h1 h2)) (fun h => h98 (hb h) h1 h2))
            refine And.intro (vp_in_nI (by omega) (by omega)) ?_
            rw [nI_clamp (n := i) (by omega)]
            have hn12 : ¬ (b_text j = 11 ∨ b_text j = 10) := fun z => z.elim h1 h2
            have hnbl : ¬ bi_bl (b_text j) := fun z => z.elim (hnb h).1 (fun q => q.elim (hnb h).2 r)
            rw [if_neg hn12, if_neg hnbl, if_neg (by decide)] at k
            exact k
      have h51 : bi_bl (b_text j) → wY_lineLevel_51 post (wY_lineLevel_14 post (nI i) g_cap g_depth (nI N) g_para g_count g_e g_way g_sos g_eos g_done b_text b_cut b_pair b_res b_level b_over b_type b_first b_seq b_open b_stLevel b_stOver b_stIso n) (nI i) (nI j) (b_text j) g_cap g_depth (nI N) g_para g_count g_e g_way g_sos g_eos g_done b_text b_cut b_pair b_res b_level b_over b_type b_first b_seq b_open b_stLevel b_stOver b_stIso := fun hb => h56 true (fun _ => hb) (fun q => by cases q)
      have h55 : ¬ b_text j = 12 → ¬ (¬ b_text j < 19 ∧ b_text j ≤ 22) → wY_lineLevel_55 post (wY_lineLevel_14 post (nI i) g_cap g_depth (nI N) g_para g_count g_e g_way g_sos g_eos g_done b_text b_cut b_pair b_res b_level b_over b_type b_first b_seq b_open b_stLevel b_stOver b_stIso n) (nI i) (nI j) (b_text j) g_cap g_depth (nI N) g_para g_count g_e g_way g_sos g_eos g_done b_text b_cut b_pair b_res b_level b_over b_type b_first b_seq b_open b_stLevel b_stOver b_stIso := fun q1 q2 => h56 false (fun q => by cases q) (fun _ => ⟨q1, q2⟩)
      exact br_c (fun q => h51 (Or.inl q)) (fun q => br_c (fun q2 => h55 q (fun w => w.1 q2)) (fun q2 => br_c (fun q3 => h55 q (fun w => Int32.not_lt.mpr w.2 q3)) (fun q3 => h51 (Or.inr (Or.inl ⟨q2, Int32.not_lt.mp q3⟩)))))
theorem by_ll {post : Int32 → Prop} {i N : Nat} (hd : ¬ g_done = 0) (hN : N ≤ 32) (hi : i < N) (hK : ∀ j, b_cut j = 0 ∨ b_cut j = 1) (k : post (bi_yl b_text b_cut N g_para b_res i)) : wpY_lineLevel post (g_cap, g_depth, nI N, g_para, g_count, g_e, g_way, g_sos, g_eos, g_done, b_text, b_cut, b_pair, b_res, b_level, b_over, b_type, b_first, b_seq, b_open, b_stLevel, b_stOver, b_stIso) (nI i) := by
  unfold wpY_lineLevel
  unfold bi_yl at k
  refine by_unseen hd hN hi (fun r => br_t rfl (Exists.intro 33 ?_)) (fun r => br_f (by decide) ?_)
  · rw [if_neg r] at k
    exact by_ll_loop hN hi hK 33 i (by omega) (by omega) k
  · rw [if_pos r] at k
    exact k
theorem by_least_loop {post : Int32 → Prop} {a b N : Nat} {lv : Nat → Nat} (hd : ¬ g_done = 0) (hN : N ≤ 32) (hab : a ≤ b) (hb : b < N) (hK : ∀ j, b_cut j = 0 ∨ b_cut j = 1)
    (hlv : ∀ i, i < N → ¬ bi_R (b_text i) → bi_yl b_text b_cut N g_para b_res i = nI (lv i) ∧ lv i < 2 ^ 31) (ha : ¬ bi_R (b_text a)) (k : post (nI (bi_mn b_text lv a (b - a)))) :
    ∀ n d, a + d ≤ b → b - (a + d) < n → wY_least_9 post (nI b) g_cap g_depth (nI N) g_para g_count g_e g_way g_sos g_eos g_done b_text b_cut b_pair b_res b_level b_over b_type b_first b_seq b_open b_stLevel b_stOver b_stIso n (nI (bi_mn b_text lv a d)) (nI (a + (d + 1))) := by
  intro n
  induction n with
  | zero => intro d h1 h2; omega
  | succ n ih =>
    intro d h1 hn
    by_cases z : b < a + (d + 1)
    · have e : d = b - a := by omega
      subst e
      exact br_t (nI_lt z (by omega)) k
    · have hm : bi_mn b_text lv a d < 2 ^ 31 := Nat.lt_of_le_of_lt (bi_mn_b d) (hlv a (by omega) ha).2
      refine br_f (nI_nlt (by omega) (by omega)) (br_f (nI_ge (by omega) (by omega)) (by_ll hd hN (by omega) hK ?_))
      have ih' := ih (d + 1) (by omega) (by omega)
      simp only [bi_mn] at ih'
      by_cases r : bi_R (b_text (a + (d + 1)))
      · rw [if_pos r] at ih'
        have e : bi_yl b_text b_cut N g_para b_res (a + (d + 1)) = -1 := if_pos r
        rw [e]
        exact br_t (by decide) (nm_r (nI_1 _) ih')
      · obtain ⟨e1, e2⟩ := hlv _ (show a + (d + 1) < N by omega) r
        rw [if_neg r] at ih'
        rw [e1]
        refine br_f (nI_pos e2) ?_
        by_cases q : lv (a + (d + 1)) < bi_mn b_text lv a d
        · rw [if_pos q] at ih'
          exact br_f (nI_ge q hm) (nm_r (nI_1 _) ih')
        · rw [if_neg q] at ih'
          exact br_t (nI_le (by omega) e2) (nm_r (nI_1 _) ih')
theorem by_least {post : Int32 → Prop} {a b N : Nat} {lv : Nat → Nat} (hd : ¬ g_done = 0) (hN : N ≤ 32) (hab : a ≤ b) (hb : b < N) (hK : ∀ j, b_cut j = 0 ∨ b_cut j = 1)
    (hlv : ∀ i, i < N → ¬ bi_R (b_text i) → bi_yl b_text b_cut N g_para b_res i = nI (lv i) ∧ lv i < 2 ^ 31) (ha : ¬ bi_R (b_text a)) (k : post (nI (bi_mn b_text lv a (b - a)))) :
    wpY_least post (g_cap, g_depth, nI N, g_para, g_count, g_e, g_way, g_sos, g_eos, g_done, b_text, b_cut, b_pair, b_res, b_level, b_over, b_type, b_first, b_seq, b_open, b_stLevel, b_stOver, b_stIso) (nI a) (nI b) := by
  unfold wpY_least
  obtain ⟨e1, e2⟩ := hlv a (by omega) ha
  refine by_ll hd hN (by omega) hK (Exists.intro 34 ?_)
  rw [e1]
  refine br_f (nI_nlt hab (by omega)) (br_f (nI_ge (by omega) (by omega)) (by_ll hd hN (by omega) hK ?_))
  rw [e1]
  exact br_f (nI_pos e2) (br_t (nI_le (Nat.le_refl _) e2) (nm_r (nI_1 _) (by_least_loop hd hN hab hb hK hlv ha k 33 0 (by omega) (by omega))))
theorem by_vis_loop {post : Int32 → Prop} {i N : Nat} {lv : Nat → Nat} (hd : ¬ g_done = 0) (hN : N ≤ 32) (hi : i < N) (hK : ∀ j, b_cut j = 0 ∨ b_cut j = 1)
    (hlv : ∀ i, i < N → ¬ bi_R (b_text i) → bi_yl b_text b_cut N g_para b_res i = nI (lv i) ∧ lv i < 2 ^ 31) (hr : ¬ bi_R (b_text i)) (k : post (nI (bi_ct b_text b_cut lv i N))) :
    ∀ n j, j ≤ N → N - j < n → wY_toVisual_17 post (nI i) g_cap g_depth (nI N) g_para g_count g_e g_way g_sos g_eos g_done b_text b_cut b_pair b_res b_level b_over b_type b_first b_seq b_open b_stLevel b_stOver b_stIso n (nI (bi_ct b_text b_cut lv i j)) (nI j) := by
  intro n
  induction n with
  | zero => intro j h1 h2; omega
  | succ n ih =>
    intro j hj hn
    by_cases z : N ≤ j
    · have e : j = N := by omega
      subst e
      exact br_t (nI_le (by omega) (by omega)) k
    · have ih' := ih (j + 1) (by omega) (by omega)
      simp only [bi_ct] at ih'
      have skip : ¬ bi_lf b_text b_cut lv i j → wY_toVisual_17 post (nI i) g_cap g_depth (nI N) g_para g_count g_e g_way g_sos g_eos g_done b_text b_cut b_pair b_res b_level b_over b_type b_first b_seq b_open b_stLevel b_stOver b_stIso n (nI (bi_ct b_text b_cut lv i j)) (nI (j + 1)) := by
        intro q
        rw [if_neg q] at ih'
        exact ih'
      refine br_f (nI_ge (by omega) (by omega)) ?_
      by_cases e : j = i
      · exact br_t (by rw [e]) (nm_r (nI_1 j) (skip (fun q => q.2.2.1 e)))
      · refine br_f (fun q => e ((nI_eq (by omega) (by omega)).mp q)) (And.intro (vp_in_nI (by omega) (by omega)) ?_)
        rw [nI_clamp (n := j) (by omega)]
        refine by_ifR (fun r => ?_) (fun r => nm_r (nI_1 j) (skip (fun q => q.1 r)))
        refine by_lineOf (by omega) hK (by_lineOf (by omega) hK ?_)
        have l1 := bi_ln_le b_cut j
        have l2 := bi_ln_le b_cut i
        by_cases el : bi_ln b_cut j = bi_ln b_cut i
        · refine br_t (by rw [el]) ?_
          have h83 : ∀ m : Nat, m < 2 ^ 31 → m = (if i ≤ j then bi_mn b_text lv i (j - i) else bi_mn b_text lv j (i - j)) → wY_toVisual_83 post (wY_toVisual_17 post (nI i) g_cap g_depth (nI N) g_para g_count g_e g_way g_sos g_eos g_done b_text b_cut b_pair b_res b_level b_over b_type b_first b_seq b_open b_stLevel b_stOver b_stIso n) (nI i) (nI (bi_ct b_text b_cut lv i j)) (nI j) (nI m) g_cap g_depth (nI N) g_para g_count g_e g_way g_sos g_eos g_done b_text b_cut b_pair b_res b_level b_over b_type b_first b_seq b_open b_stLevel b_stOver b_stIso := by
            intro m hm em
            refine And.intro (by decide) ?_
            have e2 : nI m - nI m / 2 * 2 = nI (m % 2) := pk_rem (d := 2) hm (by omega) (by omega)
            rw [e2]
            have hlf : bi_lf b_text b_cut lv i j ↔ (m % 2 = 0 ↔ j < i) := by
              unfold bi_lf
              rw [em]
              exact ⟨fun q => q.2.2.2, fun q => ⟨r, el, e, q⟩⟩
            have cnt : (m % 2 = 0 ↔ j < i) → wY_toVisual_17 post (nI i) g_cap g_depth (nI N) g_para g_count g_e g_way g_sos g_eos g_done b_text b_cut b_pair b_res b_level b_over b_type b_first b_seq b_open b_stLevel b_stOver b_stIso n (nI (bi_ct b_text b_cut lv i j) + 1) (nI (j + 1)) := by
              intro q
              rw [if_pos (hlf.mpr q)] at ih'
              rw [nI_1]
              exact ih'
            have nct : ¬ (m % 2 = 0 ↔ j < i) → wY_toVisual_17 post (nI i) g_cap g_depth (nI N) g_para g_count g_e g_way g_sos g_eos g_done b_text b_cut b_pair b_res b_level b_over b_type b_first b_seq b_open b_stLevel b_stOver b_stIso n (nI (bi_ct b_text b_cut lv i j)) (nI (j + 1)) := fun q => skip (fun w => q (hlf.mp w))
            by_cases q : m % 2 = 0
            · refine br_t (by rw [q]; rfl) ?_
              by_cases y : i ≤ j
              · exact br_t (nI_le y (by omega)) (br_f (by decide) (nm_r (nI_1 j) (nct (by omega))))
              · exact br_f (nI_ge (by omega) (by omega)) (br_t rfl (nm_e (nm_r (nI_1 j) (cnt (by omega)))))
            · have q1 : m % 2 = 1 := by omega
              refine br_f (by rw [q1]; decide) ?_
              by_cases y : i ≤ j
              · exact br_t (nI_le y (by omega)) (br_t rfl (nm_e (nm_r (nI_1 j) (cnt (by omega)))))
              · exact br_f (nI_ge (by omega) (by omega)) (br_f (by decide) (nm_r (nI_1 j) (nct (by omega))))
          have hmi : ∀ d, bi_mn b_text lv i d < 2 ^ 31 := fun d => Nat.lt_of_le_of_lt (bi_mn_b d) (hlv i hi hr).2
          have hmj : ∀ d, bi_mn b_text lv j d < 2 ^ 31 := fun d => Nat.lt_of_le_of_lt (bi_mn_b d) (hlv j (by omega) r).2
          by_cases y : i ≤ j
          · exact br_t (nI_le y (by omega)) (by_least hd hN y (by omega) hK hlv hr (h83 _ (hmi _) (by rw [if_pos y])))
          · exact br_f (nI_ge (by omega) (by omega)) (by_least hd hN (by omega) hi hK hlv r (h83 _ (hmj _) (by rw [if_neg y])))
        · exact br_f (fun q => el ((nI_eq (by omega) (by omega)).mp q)) (nm_r (nI_1 j) (skip (fun q => el q.2.1)))
theorem by_vis {post : Int32 → Prop} {i N : Nat} {lv : Nat → Nat} (hd : ¬ g_done = 0) (hN : N ≤ 32) (hi : i < N) (hK : ∀ j, b_cut j = 0 ∨ b_cut j = 1)
    (hlv : ∀ i, i < N → ¬ bi_R (b_text i) → bi_yl b_text b_cut N g_para b_res i = nI (lv i) ∧ lv i < 2 ^ 31) (k0 : ¬ bi_R (b_text i) → post (nI (bi_ct b_text b_cut lv i N))) (k1 : bi_R (b_text i) → post (-1)) : wpY_toVisual post (g_cap, g_depth, nI N, g_para, g_count, g_e, g_way, g_sos, g_eos, g_done, b_text, b_cut, b_pair, b_res, b_level, b_over, b_type, b_first, b_seq, b_open, b_stLevel, b_stOver, b_stIso) (nI i) := by
  unfold wpY_toVisual
  exact by_unseen hd hN hi (fun r => br_t rfl (Exists.intro 34 (by_vis_loop hd hN hi hK hlv r (k0 r) 34 0 (by omega) (by omega)))) (fun r => br_f (by decide) (k1 r))
theorem by_lineCount {post : Int32 → Prop} {N : Nat} (hd : ¬ g_done = 0) (hN : N ≤ 32) (hK : ∀ j, b_cut j = 0 ∨ b_cut j = 1) (k : post (nI (bi_ln b_cut N + 1))) : wpY_lineCount post (g_cap, g_depth, nI N, g_para, g_count, g_e, g_way, g_sos, g_eos, g_done, b_text, b_cut, b_pair, b_res, b_level, b_over, b_type, b_first, b_seq, b_open, b_stLevel, b_stOver, b_stIso) :=
  br_f hd (by_lineOf hN hK (by rw [nI_1]; exact k))
theorem by_lstart_loop {post : Int32 → Prop} {N l f : Nat} (hN : N ≤ 32) (hK : ∀ j, b_cut j = 0 ∨ b_cut j = 1) (hl : l ≤ 32) (hf : f < N) (h1 : bi_ln b_cut f = l) (h2 : ∀ i, i < f → bi_ln b_cut i ≠ l) (k : post (nI f)) :
    ∀ n i, i ≤ f → f - i < n → wY_lineStart_8 post (nI l) 0 g_cap g_depth (nI N) g_para g_count g_e g_way g_sos g_eos g_done b_text b_cut b_pair b_res b_level b_over b_type b_first b_seq b_open b_stLevel b_stOver b_stIso n (nI i) := by
  intro n
  induction n with
  | zero => intro i h1 h2; omega
  | succ n ih =>
    intro i hi hn
    refine br_t rfl (br_f (nI_ge (by omega) (by omega)) (by_lineOf (by omega) hK ?_))
    have l1 := bi_ln_le b_cut i
    by_cases z : i = f
    · subst z
      exact br_t (by rw [h1]) k
    · exact br_f (fun q => h2 i (by omega) ((nI_eq (by omega) (by omega)).mp q)) (nm_r (nI_1 i) (ih (i + 1) (by omega) (by omega)))
theorem by_tolog_loop {post : Int32 → Prop} {N l v : Nat} {lv : Nat → Nat} (o : Option Nat) (hd : ¬ g_done = 0) (hN : N ≤ 32) (hK : ∀ j, b_cut j = 0 ∨ b_cut j = 1) (hl : l ≤ 32) (hv : v < 2 ^ 31)
    (hlv : ∀ i, i < N → ¬ bi_R (b_text i) → bi_yl b_text b_cut N g_para b_res i = nI (lv i) ∧ lv i < 2 ^ 31)
    (h0 : ∀ f, o = some f → f < N ∧ bi_ln b_cut f = l ∧ ¬ bi_R (b_text f) ∧ bi_ct b_text b_cut lv f N = v)
    (h1 : ∀ i, i < N → (∀ f, o = some f → i < f) → ¬ (bi_ln b_cut i = l ∧ ¬ bi_R (b_text i) ∧ bi_ct b_text b_cut lv i N = v)) (k : post (bi_o o)) :
    ∀ n i, i ≤ N → (∀ f, o = some f → i ≤ f) → N - i < n → wY_toLogical_15 post (nI l) (nI v) g_cap g_depth (nI N) g_para g_count g_e g_way g_sos g_eos g_done b_text b_cut b_pair b_res b_level b_over b_type b_first b_seq b_open b_stLevel b_stOver b_stIso n (nI i) := by
  intro n
  induction n with
  | zero => intro i h1 _ h2; omega
  | succ n ih =>
    intro i hi hf hn
    refine br_f (nI_pos hv) ?_
    by_cases z : N ≤ i
    · refine br_t (nI_le z (by omega)) ?_
      cases o with
      | none => exact k
      | some f => have := h0 f rfl; have := hf f rfl; omega
    · refine br_f (nI_ge (by omega) (by omega)) (by_lineOf (by omega) hK ?_)
      have l1 := bi_ln_le b_cut i
      have c1 := bi_ct_le b_text b_cut lv i N
      have next : ¬ (bi_ln b_cut i = l ∧ ¬ bi_R (b_text i) ∧ bi_ct b_text b_cut lv i N = v) → wY_toLogical_15 post (nI l) (nI v) g_cap g_depth (nI N) g_para g_count g_e g_way g_sos g_eos g_done b_text b_cut b_pair b_res b_level b_over b_type b_first b_seq b_open b_stLevel b_stOver b_stIso n (nI (i + 1)) := by
        intro q
        refine ih (i + 1) (by omega) (fun f ef => ?_) (by omega)
        obtain ⟨a1, a2⟩ := h0 f ef
        have a3 := hf f ef
        by_cases e : i = f
        · subst e; exact absurd a2 q
        · omega
      by_cases el : bi_ln b_cut i = l
      · refine br_t (by rw [el]) (by_vis hd hN (by omega) hK hlv (fun r => ?_) (fun r => ?_))
        · by_cases ev : bi_ct b_text b_cut lv i N = v
          · refine br_t (by rw [ev]) ?_
            cases o with
            | none => exact absurd ⟨el, r, ev⟩ (h1 i (by omega) (fun f ef => by cases ef))
            | some f =>
              have a3 := hf f rfl
              by_cases e : i = f
              · subst e; exact k
              · exact absurd ⟨el, r, ev⟩ (h1 i (by omega) (fun f' ef => by cases ef; omega))
          · exact br_f (fun q => ev ((nI_eq (by omega) hv).mp q)) (nm_r (nI_1 i) (next (fun q => ev q.2.2)))
        · refine br_f (fun q => ?_) (nm_r (nI_1 i) (next (fun q => q.2.1 r)))
          have : ¬ nI v < 0 := nI_pos hv
          rw [← q] at this
          exact this (by decide)
      · exact br_f (fun q => el ((nI_eq (by omega) (by omega)).mp q)) (nm_r (nI_1 i) (next (fun q => el q.1)))
end
end
section
/-! a place is the number of those that stand left of it -/
noncomputable def bi_w (P : Prop) : Nat := @ite Nat P (Classical.propDecidable P) 1 0
theorem bi_w_t {P : Prop} (h : P) : bi_w P = 1 := by unfold bi_w; rw [if_pos h]
theorem bi_w_f {P : Prop} (h : ¬ P) : bi_w P = 0 := by unfold bi_w; rw [if_neg h]
noncomputable def bi_cn (P : Nat → Prop) : Nat → Nat
  | 0 => 0
  | k + 1 => bi_cn P k + bi_w (P k)
theorem bi_cn_eq {P Q : Nat → Prop} : ∀ {N : Nat}, (∀ k, k < N → (P k ↔ Q k)) → bi_cn P N = bi_cn Q N
  | 0, _ => rfl
  | N + 1, h => by
    simp only [bi_cn]
    rw [bi_cn_eq (N := N) (fun k hk => h k (by omega))]
    by_cases z : P N
    · rw [bi_w_t z, bi_w_t ((h N (by omega)).mp z)]
    · rw [bi_w_f z, bi_w_f (fun q => z ((h N (by omega)).mpr q))]
theorem bi_cn_0 {P : Nat → Prop} : ∀ {N : Nat}, (∀ k, k < N → ¬ P k) → bi_cn P N = 0
  | 0, _ => rfl
  | N + 1, h => by
    simp only [bi_cn]
    rw [bi_cn_0 (N := N) (fun k hk => h k (by omega)), bi_w_f (h N (by omega))]
theorem bi_cn_add {P : Nat → Prop} {a : Nat} (hp : ¬ P a) : ∀ {N : Nat}, a < N → bi_cn (fun k => P k ∨ k = a) N = bi_cn P N + 1
  | 0, h => by omega
  | N + 1, h => by
    simp only [bi_cn]
    by_cases z : a < N
    · rw [bi_cn_add hp z]
      have : bi_w (P N ∨ N = a) = bi_w (P N) := by
        by_cases q : P N
        · rw [bi_w_t q, bi_w_t (Or.inl q)]
        · rw [bi_w_f q, bi_w_f (fun w => w.elim q (fun e => by omega))]
      omega
    · have e : a = N := by omega
      subst e
      rw [bi_w_t (Or.inr rfl), bi_w_f hp, bi_cn_eq (P := fun k => P k ∨ k = a) (Q := P) (fun k hk => ⟨fun q => q.elim id (fun e => by omega), Or.inl⟩)]
theorem bi_ct_cn (T K : Nat → Int32) (lv : Nat → Nat) (i : Nat) : ∀ N, bi_ct T K lv i N = bi_cn (bi_lf T K lv i) N
  | 0 => rfl
  | N + 1 => by
    simp only [bi_cn, bi_ct]
    rw [bi_ct_cn T K lv i N]
    by_cases z : bi_lf T K lv i N
    · rw [if_pos z, bi_w_t z]
    · rw [if_neg z, bi_w_f z]
theorem bi_line_slot {T K : Nat → Int32} {N l j : Nat} (hj : j < N) (hr : ¬ bi_R (T j)) : bi_ln K j = l ↔ bi_rc T (bi_fs K N l) ≤ bi_rc T j ∧ bi_rc T j < bi_rc T (bi_fs K N (l + 1)) := by
  rw [bi_ln_iff (N := N) hj]
  constructor
  · intro h
    exact ⟨bi_rc_mono T h.1, bi_rc_lt h.2 hr⟩
  · intro h
    refine ⟨?_, ?_⟩
    · rcases Nat.lt_or_ge j (bi_fs K N l) with z | z
      · have := bi_rc_lt z hr; omega
      · exact z
    · rcases Nat.lt_or_ge j (bi_fs K N (l + 1)) with z | z
      · exact z
      · have := bi_rc_mono T z; omega
theorem bi_ct_slot {T K : Nat → Int32} {N l i s : Nat} {lv σ : Nat → Nat} (hi : i < N) (hr : ¬ bi_R (T i)) (hl : bi_ln K i = l)
    (ho : bi_Ord (bi_M T N lv) (bi_rc T (bi_fs K N l)) (bi_rc T (bi_fs K N (l + 1))) 1 σ) (s1 : bi_rc T (bi_fs K N l) ≤ s) (s2 : s < bi_rc T (bi_fs K N (l + 1))) (es : σ s = bi_rc T i) : bi_ct T K lv i N = s - bi_rc T (bi_fs K N l) := by
  have hb : bi_rc T (bi_fs K N (l + 1)) ≤ bi_rc T N := bi_rc_mono T (bi_fs_spec K (l + 1) N).1
  have base : ∀ v, bi_rc T (bi_fs K N l) + v ≤ bi_rc T (bi_fs K N (l + 1)) → bi_cn (fun j => ∃ t, bi_rc T (bi_fs K N l) ≤ t ∧ t < bi_rc T (bi_fs K N l) + v ∧ j = bi_ps T N (σ t)) N = v := by
    intro v
    induction v with
    | zero => intro _; exact bi_cn_0 (fun k _ q => by obtain ⟨t, t1, t2, _⟩ := q; omega)
    | succ v ih =>
      intro hv
      have r := ho.1 (bi_rc T (bi_fs K N l) + v) (by omega) (by omega)
      have sp := bi_ps_spec (T := T) (N := N) (s := σ (bi_rc T (bi_fs K N l) + v)) (by omega)
      have add := bi_cn_add (P := fun j => ∃ t, bi_rc T (bi_fs K N l) ≤ t ∧ t < bi_rc T (bi_fs K N l) + v ∧ j = bi_ps T N (σ t)) (a := bi_ps T N (σ (bi_rc T (bi_fs K N l) + v))) (by
        intro q
        obtain ⟨t, t1, t2, t3⟩ := q
        have rt := ho.1 t t1 (by omega)
        have := bi_ord_inj ho (by omega) (by omega) t1 (by omega) (bi_ps_inj (by omega) (by omega) t3)
        omega) (N := N) sp.1
      rw [ih (by omega)] at add
      rw [← add]
      refine bi_cn_eq (fun k _ => ⟨fun q => ?_, fun q => ?_⟩)
      · obtain ⟨t, t1, t2, t3⟩ := q
        by_cases e : t = bi_rc T (bi_fs K N l) + v
        · subst e; exact Or.inr t3
        · exact Or.inl ⟨t, t1, by omega, t3⟩
      · rcases q with q | q
        · obtain ⟨t, t1, t2, t3⟩ := q
          exact ⟨t, t1, by omega, t3⟩
        · exact ⟨_, by omega, by omega, q⟩
  have key := base (s - bi_rc T (bi_fs K N l)) (by omega)
  rw [bi_ct_cn, ← key]
  have mm : ∀ j, j < N → ¬ bi_R (T j) → (if i ≤ j then bi_mn T lv i (j - i) else bi_mn T lv j (i - j)) = bi_M T N lv (bi_rc T j) (bi_rc T i) := by
    intro j hj hrj
    unfold bi_M
    rw [bi_ps_rc hr hi, bi_ps_rc hrj hj]
    by_cases z : i ≤ j
    · rw [if_pos z]
      by_cases e : i = j
      · subst e; rw [if_pos (Nat.le_refl _)]
      · have := bi_rc_lt (T := T) (i := i) (j := j) (by omega) hr
        rw [if_neg (by omega)]
    · have := bi_rc_lt (T := T) (i := j) (j := i) (by omega) hrj
      rw [if_neg z, if_pos (by omega)]
  refine bi_cn_eq (fun j hj => ⟨fun q => ?_, fun q => ?_⟩)
  · obtain ⟨q1, q2, q3, q4⟩ := q
    obtain ⟨c1, c2⟩ := (bi_line_slot (K := K) (l := l) hj q1).mp (by rw [q2]; exact hl)
    obtain ⟨t, t1, t2, t3⟩ := ho.2.1 _ c1 c2
    have hts : t ≠ s := by
      intro e
      subst e
      have e2 : bi_rc T j = bi_rc T i := by rw [← t3, es]
      have e3 := bi_ps_rc q1 hj
      rw [e2, bi_ps_rc hr hi] at e3
      exact q3 e3.symm
    have H := ho.2.2.2 t s t1 t2 s1 s2 hts
    rw [t3, es, Nat.add_sub_cancel] at H
    rw [mm j hj q1] at q4
    have lt : bi_rc T j < bi_rc T i ↔ j < i := by
      constructor
      · intro z
        rcases Nat.lt_or_ge j i with w | w
        · exact w
        · have := bi_rc_mono T w; omega
      · intro z; exact bi_rc_lt z q1
    rw [lt] at H
    have : t < s := H.mpr ⟨fun z => q4.mpr z, fun z => q4.mp z⟩
    exact ⟨t, t1, by omega, by rw [t3]; exact (bi_ps_rc q1 hj).symm⟩
  · obtain ⟨t, t1, t2, t3⟩ := q
    have rt := ho.1 t t1 (by omega)
    obtain ⟨p1, p2, p3⟩ := bi_ps_spec (T := T) (N := N) (s := σ t) (by omega)
    rw [← t3] at p1 p2 p3
    have hts : t ≠ s := by omega
    have H := ho.2.2.2 t s t1 (by omega) s1 s2 hts
    rw [← p3, es, Nat.add_sub_cancel] at H
    have lt : bi_rc T j < bi_rc T i ↔ j < i := by
      constructor
      · intro z
        rcases Nat.lt_or_ge j i with w | w
        · exact w
        · have := bi_rc_mono T w; omega
      · intro z; exact bi_rc_lt z p2
    rw [lt, ← mm j hj p2] at H
    have h2 := H.mp (by omega)
    refine ⟨p2, ?_, ?_, ⟨fun z => h2.mpr z, fun z => h2.mp z⟩⟩
    · rw [hl]
      exact (bi_line_slot hj p2).mpr (by rw [p3]; exact rt)
    · intro e
      subst e
      have := bi_ord_inj ho t1 (by omega) s1 s2 (by rw [es, p3])
      exact hts this
theorem bi_blk_vis {T K : Nat → Int32} {N l i : Nat} {lv : Nat → Nat} {od pl : Nat → Int32} (h : bi_Blk T N lv (bi_rc T (bi_fs K N l)) (bi_rc T (bi_fs K N (l + 1))) od pl) (hi : i < N) (hr : ¬ bi_R (T i)) (hl : bi_ln K i = l) : pl i = nI (bi_ct T K lv i N) := by
  obtain ⟨σ, ho, h2⟩ := h
  obtain ⟨c1, c2⟩ := (bi_line_slot (K := K) (l := l) hi hr).mp hl
  obtain ⟨s, s1, s2, es⟩ := ho.2.1 _ c1 c2
  have := (h2 s s1 s2).2
  rw [es, bi_ps_rc hr hi] at this
  rw [bi_ct_slot hi hr hl ho s1 s2 es]
  exact this
theorem bi_blk_log {T K : Nat → Int32} {N l v : Nat} {lv : Nat → Nat} {od pl : Nat → Int32} (h : bi_Blk T N lv (bi_rc T (bi_fs K N l)) (bi_rc T (bi_fs K N (l + 1))) od pl) (hv : bi_rc T (bi_fs K N l) + v < bi_rc T (bi_fs K N (l + 1))) :
    ∃ f, od (bi_rc T (bi_fs K N l) + v) = nI f ∧ f < N ∧ bi_ln K f = l ∧ ¬ bi_R (T f) ∧ bi_ct T K lv f N = v ∧ ∀ i, i < N → bi_ln K i = l → ¬ bi_R (T i) → bi_ct T K lv i N = v → i = f := by
  obtain ⟨σ, ho, h2⟩ := h
  have hb : bi_rc T (bi_fs K N (l + 1)) ≤ bi_rc T N := bi_rc_mono T (bi_fs_spec K (l + 1) N).1
  obtain ⟨r1, r2⟩ := ho.1 (bi_rc T (bi_fs K N l) + v) (by omega) hv
  obtain ⟨p1, p2, p3⟩ := bi_ps_spec (T := T) (N := N) (s := σ (bi_rc T (bi_fs K N l) + v)) (by omega)
  have hl := (bi_line_slot (K := K) (l := l) p1 p2).mpr (by rw [p3]; exact ⟨r1, r2⟩)
  have hc := bi_ct_slot p1 p2 hl ho (by omega) hv p3.symm
  refine ⟨bi_ps T N (σ (bi_rc T (bi_fs K N l) + v)), (h2 _ (by omega) hv).1, p1, hl, p2, by rw [hc]; omega, fun i hi hli hri hci => ?_⟩
  obtain ⟨c1, c2⟩ := (bi_line_slot (K := K) (l := l) hi hri).mp hli
  obtain ⟨s, s1, s2, es⟩ := ho.2.1 _ c1 c2
  have hci' := bi_ct_slot hi hri hli ho s1 s2 es
  have : s = bi_rc T (bi_fs K N l) + v := by omega
  rw [← this, es, bi_ps_rc hri hi]
theorem bi_blk_none {T K : Nat → Int32} {N l v : Nat} {lv : Nat → Nat} {od pl : Nat → Int32} (h : bi_Blk T N lv (bi_rc T (bi_fs K N l)) (bi_rc T (bi_fs K N (l + 1))) od pl) (hv : ¬ bi_rc T (bi_fs K N l) + v < bi_rc T (bi_fs K N (l + 1))) (i : Nat) (hi : i < N) : ¬ (bi_ln K i = l ∧ ¬ bi_R (T i) ∧ bi_ct T K lv i N = v) := by
  rintro ⟨hli, hri, hci⟩
  obtain ⟨σ, ho, h2⟩ := h
  obtain ⟨c1, c2⟩ := (bi_line_slot (K := K) (l := l) hi hri).mp hli
  obtain ⟨s, s1, s2, es⟩ := ho.2.1 _ c1 c2
  have := bi_ct_slot hi hri hli ho s1 s2 es
  omega
end
section
/-! isolates: the scan for the closing PDI -/
def bi_Cf (T : Nat → Int32) (N : Nat) : Nat → Nat → Option Nat
  | 0, _ => none
  | f + 1, n => if bi_I (T (N - (f + 1))) then bi_Cf T N f (n + 1) else if T (N - (f + 1)) = 22 then (if n = 1 then some (N - (f + 1)) else bi_Cf T N f (n - 1)) else bi_Cf T N f n
def bi_C (T : Nat → Int32) (N n j : Nat) : Option Nat := bi_Cf T N (N - j) n
def bi_cl (T : Nat → Int32) (N i : Nat) : Option Nat := bi_C T N 1 (i + 1)
theorem bi_C_end {T : Nat → Int32} {N n j : Nat} (h : N ≤ j) : bi_C T N n j = none := by
  unfold bi_C
  rw [show N - j = 0 by omega]; rfl
theorem bi_C_eq {T : Nat → Int32} {N n j : Nat} (h : j < N) : bi_C T N n j = if bi_I (T j) then bi_C T N (n + 1) (j + 1) else if T j = 22 then (if n = 1 then some j else bi_C T N (n - 1) (j + 1)) else bi_C T N n (j + 1) := by
  unfold bi_C
  have e : N - j = N - (j + 1) + 1 := by omega
  rw [e]
  have e2 : N - (N - (j + 1) + 1) = j := by omega
  rw [bi_Cf, e2]
theorem bi_I22 {c : Int32} (h : c = 22) : ¬ bi_I c := by subst h; decide
theorem bi_C_I {T : Nat → Int32} {N n j : Nat} (h : j < N) (hI : bi_I (T j)) : bi_C T N n j = bi_C T N (n + 1) (j + 1) := by rw [bi_C_eq h, if_pos hI]
theorem bi_C_P1 {T : Nat → Int32} {N j : Nat} (h : j < N) (hP : T j = 22) : bi_C T N 1 j = some j := by rw [bi_C_eq h, if_neg (bi_I22 hP), if_pos hP, if_pos rfl]
theorem bi_C_P {T : Nat → Int32} {N n j : Nat} (h : j < N) (hP : T j = 22) (hn : n ≠ 1) : bi_C T N n j = bi_C T N (n - 1) (j + 1) := by rw [bi_C_eq h, if_neg (bi_I22 hP), if_pos hP, if_neg hn]
theorem bi_C_O {T : Nat → Int32} {N n j : Nat} (h : j < N) (hI : ¬ bi_I (T j)) (hP : ¬ T j = 22) : bi_C T N n j = bi_C T N n (j + 1) := by rw [bi_C_eq h, if_neg hI, if_neg hP]
theorem bi_C_val {T : Nat → Int32} {N e : Nat} : ∀ {m n j : Nat}, N - j = m → bi_C T N n j = some e → j ≤ e ∧ e < N ∧ T e = 22 := by
  intro m
  induction m with
  | zero => intro n j h1 h2; rw [bi_C_end (by omega)] at h2; cases h2
  | succ m ih =>
    intro n j h1 h2
    by_cases hI : bi_I (T j)
    · rw [bi_C_I (by omega) hI] at h2
      have := ih (by omega) h2
      exact ⟨by omega, this.2⟩
    · by_cases hP : T j = 22
      · by_cases hn : n = 1
        · subst hn
          rw [bi_C_P1 (by omega) hP] at h2
          cases h2
          exact ⟨Nat.le_refl _, by omega, hP⟩
        · rw [bi_C_P (by omega) hP hn] at h2
          have := ih (by omega) h2
          exact ⟨by omega, this.2⟩
      · rw [bi_C_O (by omega) hI hP] at h2
        have := ih (by omega) h2
        exact ⟨by omega, this.2⟩
theorem bi_C_lt {T : Nat → Int32} {N e d : Nat} (hd : 1 ≤ d) : ∀ {m n j : Nat}, N - j = m → 1 ≤ n → bi_C T N (n + d) j = some e → ∃ e', bi_C T N n j = some e' ∧ e' < e := by
  intro m
  induction m with
  | zero => intro n j h1 _ h2; rw [bi_C_end (by omega)] at h2; cases h2
  | succ m ih =>
    intro n j h1 hn h2
    by_cases hI : bi_I (T j)
    · rw [bi_C_I (by omega) hI] at h2 ⊢
      exact ih (by omega) (by omega) (by rw [show n + 1 + d = n + d + 1 by omega]; exact h2)
    · by_cases hP : T j = 22
      · rw [bi_C_P (by omega) hP (by omega)] at h2
        by_cases hn1 : n = 1
        · subst hn1
          rw [bi_C_P1 (by omega) hP]
          have := bi_C_val rfl h2
          exact ⟨j, rfl, by omega⟩
        · rw [bi_C_P (by omega) hP hn1]
          exact ih (by omega) (by omega) (by rw [show n - 1 + d = n + d - 1 by omega]; exact h2)
      · rw [bi_C_O (by omega) hI hP] at h2 ⊢
        exact ih (by omega) hn h2
theorem bi_cl_val {T : Nat → Int32} {N i e : Nat} (h : bi_cl T N i = some e) : i < e ∧ e < N ∧ T e = 22 := by
  have := bi_C_val rfl h
  exact ⟨by omega, this.2⟩
theorem bi_cl_lt {T : Nat → Int32} {N i : Nat} (hN : N ≤ 32) (n : Nat) (h : bi_cl T N i = some n) : n < 2 ^ 31 := by
  have := bi_cl_val h
  omega
theorem bi_C_thru {T : Nat → Int32} {N i0 e : Nat} (h : bi_cl T N i0 = some e) : ∀ d, i0 + 1 + d ≤ e → ∃ n, 1 ≤ n ∧ bi_C T N n (i0 + 1 + d) = some e := by
  have hv := bi_cl_val h
  intro d
  induction d with
  | zero => intro _; exact ⟨1, Nat.le_refl _, h⟩
  | succ d ih =>
    intro hd
    obtain ⟨n, h1, h2⟩ := ih (by omega)
    by_cases hI : bi_I (T (i0 + 1 + d))
    · rw [bi_C_I (by omega) hI] at h2
      exact ⟨n + 1, by omega, h2⟩
    · by_cases hP : T (i0 + 1 + d) = 22
      · by_cases hn : n = 1
        · subst hn
          rw [bi_C_P1 (by omega) hP] at h2
          have : i0 + 1 + d = e := by injection h2
          omega
        · rw [bi_C_P (by omega) hP hn] at h2
          exact ⟨n - 1, by omega, h2⟩
      · rw [bi_C_O (by omega) hI hP] at h2
        exact ⟨n, h1, h2⟩
theorem bi_nest {T : Nat → Int32} {N i0 i e : Nat} (h : bi_cl T N i0 = some e) (h1 : i0 < i) (h2 : i < e) (hI : bi_I (T i)) : ∃ e', bi_cl T N i = some e' ∧ e' < e := by
  have hv := bi_cl_val h
  obtain ⟨n, n1, n2⟩ := bi_C_thru h (i - (i0 + 1)) (by omega)
  rw [show i0 + 1 + (i - (i0 + 1)) = i by omega, bi_C_I (by omega) hI] at n2
  exact bi_C_lt n1 rfl (Nat.le_refl 1) (by rw [Nat.add_comm]; exact n2)
def bi_hd (T : Nat → Int32) (N a x : Nat) : Prop := ∃ i, a ≤ i ∧ i < x ∧ bi_I (T i) ∧ ∀ e, bi_cl T N i = some e → x < e
/-- the first strong code of a..b-1 that isn't hidden -/
def bi_AU (T : Nat → Int32) (N a b : Nat) (o : Option Nat) : Prop := (∀ f, o = some f → a ≤ f ∧ f < b ∧ ¬ 2 < T f ∧ ¬ bi_hd T N a f) ∧ (∀ y, a ≤ y → y < b → (∀ f, o = some f → y < f) → ¬ 2 < T y → bi_hd T N a y)
def bi_au (T : Nat → Int32) : Option Nat → Int32
  | none => 0
  | some f => if T f = 0 then 0 else 1
theorem bi_au_s (T : Nat → Int32) (f : Nat) : bi_au T (some f) = if T f = 0 then 0 else 1 := rfl
theorem bi_AU_ex (T : Nat → Int32) (N a b : Nat) : ∃ o, bi_AU T N a b o := by
  by_cases h : ∃ f, a ≤ f ∧ f < b ∧ ¬ 2 < T f ∧ ¬ bi_hd T N a f
  · obtain ⟨f, hf, hm⟩ := pk_least _ h
    refine ⟨some f, fun f' e => by cases e; exact hf, fun y y1 y2 y3 y4 => ?_⟩
    by_cases z : bi_hd T N a y
    · exact z
    · exact absurd ⟨y1, y2, y4, z⟩ (hm y (y3 f rfl))
  · refine ⟨none, fun f e => (by cases e), fun y y1 y2 _ y4 => ?_⟩
    by_cases z : bi_hd T N a y
    · exact z
    · exact absurd ⟨y, y1, y2, y4, z⟩ h
theorem bi_au01 (T : Nat → Int32) (o : Option Nat) : bi_au T o = 0 ∨ bi_au T o = 1 := by
  cases o with
  | none => exact Or.inl rfl
  | some f =>
    unfold bi_au
    by_cases h : T f = 0
    · exact Or.inl (if_pos h)
    · exact Or.inr (if_neg h)
section
variable {g_cap g_depth g_len g_para g_count g_e g_way g_sos g_eos g_done : Int32} {b_text b_cut b_pair b_res b_level b_over b_type b_first b_seq b_open b_stLevel b_stOver b_stIso : Nat → Int32}
theorem by_closer_loop {post : Int32 → Prop} {N : Nat} (hN : N ≤ 32) : ∀ f n j, 1 ≤ n → n ≤ j → j ≤ N → N - j < f → post (bi_o (bi_C b_text N n j)) → wY_closer_6 post g_cap g_depth (nI N) g_para g_count g_e g_way g_sos g_eos g_done b_text b_cut b_pair b_res b_level b_over b_type b_first b_seq b_open b_stLevel b_stOver b_stIso f (nI n) (nI j) := by
  intro f
  induction f with
  | zero => intro n j _ _ _ h; omega
  | succ f ih =>
    intro n j h1 h2 h3 h4 k
    by_cases z : N ≤ j
    · rw [bi_C_end z] at k
      exact br_t (nI_le z (by omega)) k
    · refine br_f (nI_ge (by omega) (by omega)) ?_
      rw [nI_clamp (n := j) (by omega)]
      have hv := vp_in_nI (n := j) (N := 32) (by omega) (by omega)
      refine And.intro hv (by_ifI (fun hI => ?_) (fun hI => ?_))
      · unfold wY_closer_30
        rw [nI_clamp (n := j) (by omega)]
        refine And.intro hv (br_c (fun hP => ?_) (fun hP => ?_))
        · by_cases hn : n = 1
          · subst hn
            rw [bi_C_P1 (by omega) hP] at k
            exact nm_e (br_t (by decide) k)
          · rw [bi_C_P (by omega) hP hn] at k
            refine nm_r (e' := nI (n - 1)) (by obtain ⟨m, rfl⟩ : ∃ m, n = m + 1 := ⟨n - 1, by omega⟩; exact pk_m1 m) (br_f (nI_ne0 (by omega) (by omega)) (nm_r (nI_1 j) (ih (n - 1) (j + 1) (by omega) (by omega) (by omega) (by omega) k)))
        · rw [bi_C_O (by omega) hI hP] at k
          exact br_f (nI_ne0 (by omega) (by omega)) (nm_r (nI_1 j) (ih n (j + 1) (by omega) (by omega) (by omega) (by omega) k))
      · rw [bi_C_I (by omega) hI] at k
        refine nm_r (nI_1 n) ?_
        unfold wY_closer_30
        rw [nI_clamp (n := j) (by omega)]
        exact And.intro hv (br_f (fun hP => bi_I22 hP hI) (br_f (nI_ne0 (by omega) (by omega)) (nm_r (nI_1 j) (ih (n + 1) (j + 1) (by omega) (by omega) (by omega) (by omega) k))))
theorem by_closer {post : Int32 → Prop} {i N : Nat} (hN : N ≤ 32) (hi : i < N) (k : post (bi_o (bi_cl b_text N i))) : wpY_closer post (g_cap, g_depth, nI N, g_para, g_count, g_e, g_way, g_sos, g_eos, g_done, b_text, b_cut, b_pair, b_res, b_level, b_over, b_type, b_first, b_seq, b_open, b_stLevel, b_stOver, b_stIso) (nI i) :=
  nm_r (nI_1 i) (Exists.intro 34 (by_closer_loop hN 34 1 (i + 1) (by omega) (by omega) (by omega) (by omega) k))
theorem by_hidden_loop {post : Int32 → Prop} {a x N : Nat} (hN : N ≤ 32) (hx : x < N) (k1 : bi_hd b_text N a x → post 1) (k0 : ¬ bi_hd b_text N a x → post 0) :
    ∀ f i, a ≤ i → i ≤ x → x - i < f → (∀ j, a ≤ j → j < i → bi_I (b_text j) → ∃ e, bi_cl b_text N j = some e ∧ e ≤ x) → wY_hidden_2 post (nI x) g_cap g_depth (nI N) g_para g_count g_e g_way g_sos g_eos g_done b_text b_cut b_pair b_res b_level b_over b_type b_first b_seq b_open b_stLevel b_stOver b_stIso f (nI i) := by
  intro f
  induction f with
  | zero => intro i _ _ h; omega
  | succ f ih =>
    intro i h1 h2 h3 h4
    by_cases z : x ≤ i
    · have e : i = x := by omega
      subst e
      refine br_t (nI_le (by omega) (by omega)) (k0 ?_)
      rintro ⟨j, j1, j2, j3, j4⟩
      obtain ⟨e, e1, e2⟩ := h4 j j1 j2 j3
      have := j4 e e1
      omega
    · refine br_f (nI_ge (by omega) (by omega)) ?_
      rw [nI_clamp (n := i) (by omega)]
      refine And.intro (vp_in_nI (by omega) (by omega)) (by_ifI (fun hI => ?_) (fun hI => ?_))
      · refine br_f (nI_pos (by omega)) (br_t (nI_le (by omega) (by omega)) (nm_r (nI_1 i) (ih (i + 1) (by omega) (by omega) (by omega) (fun j j1 j2 j3 => ?_))))
        by_cases e : j = i
        · subst e; exact absurd j3 hI
        · exact h4 j j1 (by omega) j3
      · refine by_closer hN (by omega) ?_
        refine bi_o_lt (bi_cl_lt hN) (fun e => k1 ⟨i, h1, by omega, hI, fun e' e2 => ?_⟩) (fun e he => ?_)
        · rw [e] at e2; cases e2
        · have hv := bi_cl_val he
          rw [he, bi_oS]
          by_cases q : e ≤ x
          · refine br_t (nI_le q (by omega)) (nm_r (nI_1 i) (ih (i + 1) (by omega) (by omega) (by omega) (fun j j1 j2 j3 => ?_)))
            by_cases ej : j = i
            · subst ej; exact ⟨e, he, q⟩
            · exact h4 j j1 (by omega) j3
          · refine br_f (nI_ge (by omega) (by omega)) (k1 ⟨i, h1, by omega, hI, fun e' e2 => ?_⟩)
            rw [he] at e2
            cases e2
            omega
theorem by_hidden {post : Int32 → Prop} {a x N : Nat} (hN : N ≤ 32) (ha : a ≤ x) (hx : x < N) (k1 : bi_hd b_text N a x → post 1) (k0 : ¬ bi_hd b_text N a x → post 0) : wpY_hidden post (g_cap, g_depth, nI N, g_para, g_count, g_e, g_way, g_sos, g_eos, g_done, b_text, b_cut, b_pair, b_res, b_level, b_over, b_type, b_first, b_seq, b_open, b_stLevel, b_stOver, b_stIso) (nI a) (nI x) :=
  Exists.intro 33 (by_hidden_loop hN hx k1 k0 33 a (Nat.le_refl _) ha (by omega) (fun j j1 j2 => by omega))
theorem by_auto_loop {post : Int32 → Prop} {a b N : Nat} {o : Option Nat} (hN : N ≤ 32) (hb : b ≤ N) (ho : bi_AU b_text N a b o) (k : post (bi_au b_text o)) :
    ∀ f x, a ≤ x → x ≤ N → b - x < f → (∀ g, o = some g → x ≤ g) → wY_auto_2 post (nI a) (nI b) g_cap g_depth (nI N) g_para g_count g_e g_way g_sos g_eos g_done b_text b_cut b_pair b_res b_level b_over b_type b_first b_seq b_open b_stLevel b_stOver b_stIso f (nI x) := by
  intro f
  induction f with
  | zero => intro x _ _ h; omega
  | succ f ih =>
    intro x h1 hxN h2 h3
    by_cases z : b ≤ x
    · refine br_t (nI_le z (by omega)) ?_
      cases o with
      | none => exact k
      | some g => have := ho.1 g rfl; have := h3 g rfl; omega
    · refine br_f (nI_ge (by omega) (by omega)) (br_f (nI_ge (by omega) (by omega)) ?_)
      rw [nI_clamp (n := x) (by omega)]
      have hv := vp_in_nI (n := x) (N := 32) (by omega) (by omega)
      have next : (¬ 2 < b_text x → bi_hd b_text N a x) → wY_auto_2 post (nI a) (nI b) g_cap g_depth (nI N) g_para g_count g_e g_way g_sos g_eos g_done b_text b_cut b_pair b_res b_level b_over b_type b_first b_seq b_open b_stLevel b_stOver b_stIso f (nI (x + 1)) := by
        intro q
        refine ih (x + 1) (by omega) (by omega) (by omega) (fun g eg => ?_)
        have g1 := ho.1 g eg
        have g2 := h3 g eg
        by_cases e : x = g
        · subst e; exact absurd (q g1.2.2.1) g1.2.2.2
        · omega
      refine And.intro hv (br_c (fun h => nm_r (nI_1 x) (next (fun q => absurd h q))) (fun h => by_hidden hN h1 (by omega) (fun q => br_f (by decide) (nm_r (nI_1 x) (next (fun _ => q)))) (fun q => br_t rfl (And.intro hv ?_))))
      have eo : o = some x := by
        cases o with
        | none => exact absurd (ho.2 x h1 (by omega) (fun f ef => by cases ef) h) q
        | some g =>
          by_cases e : g = x
          · rw [e]
          · exact absurd (ho.2 x h1 (by omega) (fun f ef => by cases ef; have := h3 g rfl; omega) h) q
      rw [eo, bi_au_s] at k
      refine br_c (fun e => ?_) (fun e => ?_)
      · rw [if_pos e] at k; exact k
      · rw [if_neg e] at k; exact k
theorem by_auto {post : Int32 → Prop} {a b N : Nat} {o : Option Nat} (hN : N ≤ 32) (hb : b ≤ N) (ha : a ≤ N) (ho : bi_AU b_text N a b o) (k : post (bi_au b_text o)) : wpY_auto post (g_cap, g_depth, nI N, g_para, g_count, g_e, g_way, g_sos, g_eos, g_done, b_text, b_cut, b_pair, b_res, b_level, b_over, b_type, b_first, b_seq, b_open, b_stLevel, b_stOver, b_stIso) (nI a) (nI b) :=
  Exists.intro 33 (by_auto_loop hN hb ho k 33 a (Nat.le_refl _) ha (by omega) (fun g e => (ho.1 g e).1))
theorem by_opener_loop {post : Int32 → Prop} {i N : Nat} {o : Option Nat} (hN : N ≤ 32) (hi : i < N) (h0 : ∀ g, o = some g → g < i ∧ bi_I (b_text g) ∧ bi_cl b_text N g = some i) (h1 : ∀ j, j < i → bi_I (b_text j) → bi_cl b_text N j = some i → o = some j) (k : post (bi_o o)) :
    ∀ f x, x ≤ i → i - x < f → (∀ g, o = some g → x ≤ g) → wY_opener_2 post (nI i) g_cap g_depth (nI N) g_para g_count g_e g_way g_sos g_eos g_done b_text b_cut b_pair b_res b_level b_over b_type b_first b_seq b_open b_stLevel b_stOver b_stIso f (nI x) := by
  intro f
  induction f with
  | zero => intro x _ h; omega
  | succ f ih =>
    intro x h2 h3 h4
    by_cases z : i ≤ x
    · refine br_t (nI_le z (by omega)) ?_
      cases o with
      | none => exact k
      | some g => have := h0 g rfl; have := h4 g rfl; omega
    · refine br_f (nI_ge (by omega) (by omega)) ?_
      rw [nI_clamp (n := x) (by omega)]
      have next : o ≠ some x → wY_opener_2 post (nI i) g_cap g_depth (nI N) g_para g_count g_e g_way g_sos g_eos g_done b_text b_cut b_pair b_res b_level b_over b_type b_first b_seq b_open b_stLevel b_stOver b_stIso f (nI (x + 1)) := by
        intro q
        refine ih (x + 1) (by omega) (by omega) (fun g eg => ?_)
        have g2 := h4 g eg
        by_cases e : x = g
        · subst e; exact absurd eg q
        · omega
      refine And.intro (vp_in_nI (by omega) (by omega)) (by_ifI (fun hI => nm_r (nI_1 x) (next (fun q => hI (h0 x q).2.1))) (fun hI => by_closer hN (by omega) ?_))
      by_cases e : bi_cl b_text N x = some i
      · have eo := h1 x (by omega) hI e
        rw [eo] at k
        exact br_t (by rw [e]; rfl) k
      · exact br_f (fun q => e ((bi_o_inj (bi_cl_lt hN) (by omega)).mp q)) (nm_r (nI_1 x) (next (fun q => e (h0 x q).2.2)))
theorem by_opener {post : Int32 → Prop} {i N : Nat} {o : Option Nat} (hN : N ≤ 32) (hi : i < N) (h0 : ∀ g, o = some g → g < i ∧ bi_I (b_text g) ∧ bi_cl b_text N g = some i) (h1 : ∀ j, j < i → bi_I (b_text j) → bi_cl b_text N j = some i → o = some j) (k : post (bi_o o)) : wpY_opener post (g_cap, g_depth, nI N, g_para, g_count, g_e, g_way, g_sos, g_eos, g_done, b_text, b_cut, b_pair, b_res, b_level, b_over, b_type, b_first, b_seq, b_open, b_stLevel, b_stOver, b_stIso) (nI i) :=
  Exists.intro 33 (by_opener_loop hN hi h0 h1 k 33 0 (by omega) (by omega) (fun g _ => by omega))
end
end
section
/-! isolates: the component's stack of unclosed initiators; the first strong code -/
def bi_PD (T : Nat → Int32) (N : Nat) (pt : Nat → Int32) (k : Nat) : Prop :=
  (∃ o, o < k ∧ pt k = nI o ∧ bi_I (T o) ∧ bi_cl T N o = some k ∧ ∀ j, j < k → bi_I (T j) → bi_cl T N j = some k → j = o) ∨ (pt k = -1 ∧ ∀ j, j < k → bi_I (T j) → bi_cl T N j ≠ some k)
def bi_PM (T : Nat → Int32) (N : Nat) (pt : Nat → Int32) : Prop := ∀ k, k < N → (bi_I (T k) → pt k = bi_o (bi_cl T N k)) ∧ (T k = 22 → bi_PD T N pt k) ∧ (¬ bi_I (T k) → ¬ T k = 22 → pt k = -1)
/-- at step i: the stack o of the c unclosed initiators -/
def bi_MI (T : Nat → Int32) (N i c : Nat) (o : Nat → Nat) (pt oa va : Nat → Int32) : Prop :=
  c ≤ i ∧ (∀ t, t < c → oa t = nI (o t) ∧ o t < i ∧ bi_I (T (o t)) ∧ bi_cl T N (o t) = bi_C T N (c - t) i ∧ pt (o t) = -1) ∧
  (∀ k, k < i → bi_I (T k) → (∃ t, t < c ∧ o t = k) ∨ (∃ e, e < i ∧ bi_cl T N k = some e ∧ pt k = nI e)) ∧
  (∀ k, k < i → T k = 22 → bi_PD T N pt k) ∧ (∀ k, k < i → ¬ bi_I (T k) → ¬ T k = 22 → pt k = -1) ∧ (∀ k, k < i → va k = 0)
theorem bi_PD_c {T : Nat → Int32} {N k : Nat} {pt pt' : Nat → Int32} (e : pt' k = pt k) (h : bi_PD T N pt k) : bi_PD T N pt' k := by
  unfold bi_PD at *
  rw [e]; exact h
theorem bi_C_ne {T : Nat → Int32} {N n i : Nat} (hi : i < N) (hP : T i = 22) (hn : 2 ≤ n) : bi_C T N n i ≠ some i := by
  intro h
  rw [bi_C_P hi hP (by omega)] at h
  have := bi_C_val rfl h
  omega
theorem bi_MI_push {T : Nat → Int32} {N i c : Nat} {o : Nat → Nat} {pt oa va : Nat → Int32} (hi : i < N) (hI : bi_I (T i)) (h : bi_MI T N i c o pt oa va) : bi_MI T N (i + 1) (c + 1) (fun t => if t = c then i else o t) (upd pt i (-1)) (upd oa c (nI i)) (upd va i 0) := by
  obtain ⟨h1, h2, h3, h4, h5, h6⟩ := h
  have hP : ¬ T i = 22 := fun z => bi_I22 z hI
  refine ⟨by omega, fun t ht => ?_, fun k hk hk2 => ?_, fun k hk hk2 => ?_, fun k hk hk2 hk3 => ?_, fun k hk => ?_⟩
  · by_cases e : t = c
    · subst e
      dsimp only
      rw [if_pos rfl, pk_us, pk_us, show t + 1 - t = 1 by omega]
      exact ⟨rfl, by omega, hI, rfl, rfl⟩
    · obtain ⟨a1, a2, a3, a4, a5⟩ := h2 t (by omega)
      dsimp only
      rw [if_neg e, pk_un e, pk_un (by omega)]
      refine ⟨a1, by omega, a3, ?_, a5⟩
      rw [a4, bi_C_I hi hI, show c - t + 1 = c + 1 - t by omega]
  · by_cases e : k = i
    · subst e
      exact Or.inl ⟨c, by omega, if_pos rfl⟩
    · rcases h3 k (by omega) hk2 with ⟨t, t1, t2⟩ | ⟨e', e1, e2, e3⟩
      · exact Or.inl ⟨t, by omega, by dsimp only; rw [if_neg (by omega)]; exact t2⟩
      · exact Or.inr ⟨e', by omega, e2, by rw [pk_un e]; exact e3⟩
  · have e : k ≠ i := fun z => by subst z; exact hP hk2
    exact bi_PD_c (pk_un e) (h4 k (by omega) hk2)
  · have e : k ≠ i := fun z => by subst z; exact hk2 hI
    rw [pk_un e]; exact h5 k (by omega) hk2 hk3
  · by_cases e : k = i
    · rw [e, pk_us]
    · rw [pk_un e]; exact h6 k (by omega)
theorem bi_MI_none {T : Nat → Int32} {N i : Nat} {o : Nat → Nat} {pt oa va : Nat → Int32} (hi : i < N) (hP : T i = 22) (h : bi_MI T N i 0 o pt oa va) : bi_MI T N (i + 1) 0 o (upd pt i (-1)) oa (upd va i 0) := by
  obtain ⟨h1, h2, h3, h4, h5, h6⟩ := h
  refine ⟨by omega, fun t ht => by omega, fun k hk hk2 => ?_, fun k hk hk2 => ?_, fun k hk hk2 hk3 => ?_, fun k hk => ?_⟩
  · have e : k ≠ i := fun z => by subst z; exact bi_I22 hP hk2
    rcases h3 k (by omega) hk2 with ⟨t, t1, t2⟩ | ⟨e', e1, e2, e3⟩
    · omega
    · exact Or.inr ⟨e', by omega, e2, by rw [pk_un e]; exact e3⟩
  · by_cases e : k = i
    · subst e
      refine Or.inr ⟨pk_us, fun j hj hjI hc => ?_⟩
      rcases h3 j hj hjI with ⟨t, t1, t2⟩ | ⟨e', e1, e2, e3⟩
      · omega
      · rw [e2] at hc
        cases hc
        omega
    · exact bi_PD_c (pk_un e) (h4 k (by omega) hk2)
  · by_cases e : k = i
    · subst e; exact absurd hP hk3
    · rw [pk_un e]; exact h5 k (by omega) hk2 hk3
  · by_cases e : k = i
    · rw [e, pk_us]
    · rw [pk_un e]; exact h6 k (by omega)
theorem bi_MI_pop {T : Nat → Int32} {N i c : Nat} {o : Nat → Nat} {pt oa va : Nat → Int32} (hi : i < N) (hP : T i = 22) (h : bi_MI T N i (c + 1) o pt oa va) : bi_MI T N (i + 1) c o (upd (upd (upd pt i (-1)) i (nI (o c))) (o c) (nI i)) oa (upd va i 0) := by
  obtain ⟨h1, h2, h3, h4, h5, h6⟩ := h
  obtain ⟨b1, b2, b3, b4, b5⟩ := h2 c (by omega)
  rw [show c + 1 - c = 1 by omega, bi_C_P1 hi hP] at b4
  have low : ∀ t, t < c → o t ≠ o c := by
    intro t ht e
    have a4 := (h2 t (by omega)).2.2.2.1
    rw [e, b4] at a4
    exact bi_C_ne hi hP (by omega) a4.symm
  refine ⟨by omega, fun t ht => ?_, fun k hk hk2 => ?_, fun k hk hk2 => ?_, fun k hk hk2 hk3 => ?_, fun k hk => ?_⟩
  · obtain ⟨a1, a2, a3, a4, a5⟩ := h2 t (by omega)
    rw [pk_un (low t ht), pk_un (by omega), pk_un (by omega)]
    refine ⟨a1, by omega, a3, ?_, a5⟩
    rw [a4, bi_C_P hi hP (by omega), show c + 1 - t - 1 = c - t by omega]
  · have e : k ≠ i := fun z => by subst z; exact bi_I22 hP hk2
    by_cases ek : k = o c
    · subst ek
      exact Or.inr ⟨i, by omega, b4, pk_us⟩
    · rcases h3 k (by omega) hk2 with ⟨t, t1, t2⟩ | ⟨e', e1, e2, e3⟩
      · have : t ≠ c := fun z => by subst z; exact ek t2.symm
        exact Or.inl ⟨t, by omega, t2⟩
      · exact Or.inr ⟨e', by omega, e2, by rw [pk_un ek, pk_un e, pk_un e]; exact e3⟩
  · have ek : k ≠ o c := fun z => by subst z; exact bi_I22 hk2 b3
    by_cases e : k = i
    · subst e
      refine Or.inl ⟨o c, b2, by rw [pk_un ek, pk_us], b3, b4, fun j hj hjI hc => ?_⟩
      rcases h3 j hj hjI with ⟨t, t1, t2⟩ | ⟨e', e1, e2, e3⟩
      · by_cases et : t = c
        · subst et; exact t2.symm
        · have a4 := (h2 t t1).2.2.2.1
          rw [t2, hc] at a4
          exact absurd a4.symm (bi_C_ne hi hP (by omega))
      · rw [e2] at hc
        cases hc
        omega
    · exact bi_PD_c (by rw [pk_un ek, pk_un e, pk_un e]) (h4 k (by omega) hk2)
  · have ek : k ≠ o c := fun z => by subst z; exact hk2 b3
    have e : k ≠ i := fun z => by subst z; exact hk3 hP
    rw [pk_un ek, pk_un e, pk_un e]; exact h5 k (by omega) hk2 hk3
  · by_cases e : k = i
    · rw [e, pk_us]
    · rw [pk_un e]; exact h6 k (by omega)
theorem bi_MI_other {T : Nat → Int32} {N i c : Nat} {o : Nat → Nat} {pt oa va : Nat → Int32} (hi : i < N) (hI : ¬ bi_I (T i)) (hP : ¬ T i = 22) (h : bi_MI T N i c o pt oa va) : bi_MI T N (i + 1) c o (upd pt i (-1)) oa (upd va i 0) := by
  obtain ⟨h1, h2, h3, h4, h5, h6⟩ := h
  refine ⟨by omega, fun t ht => ?_, fun k hk hk2 => ?_, fun k hk hk2 => ?_, fun k hk hk2 hk3 => ?_, fun k hk => ?_⟩
  · obtain ⟨a1, a2, a3, a4, a5⟩ := h2 t ht
    rw [pk_un (by omega)]
    refine ⟨a1, by omega, a3, ?_, a5⟩
    rw [a4, bi_C_O hi hI hP]
  · have e : k ≠ i := fun z => by subst z; exact hI hk2
    rcases h3 k (by omega) hk2 with ⟨t, t1, t2⟩ | ⟨e', e1, e2, e3⟩
    · exact Or.inl ⟨t, t1, t2⟩
    · exact Or.inr ⟨e', by omega, e2, by rw [pk_un e]; exact e3⟩
  · have e : k ≠ i := fun z => by subst z; exact hP hk2
    exact bi_PD_c (pk_un e) (h4 k (by omega) hk2)
  · by_cases e : k = i
    · rw [e, pk_us]
    · rw [pk_un e]; exact h5 k (by omega) hk2 hk3
  · by_cases e : k = i
    · rw [e, pk_us]
    · rw [pk_un e]; exact h6 k (by omega)
theorem bi_MI_end {T : Nat → Int32} {N c : Nat} {o : Nat → Nat} {pt oa va : Nat → Int32} (h : bi_MI T N N c o pt oa va) : bi_PM T N pt := by
  obtain ⟨h1, h2, h3, h4, h5, h6⟩ := h
  refine fun k hk => ⟨fun hI => ?_, h4 k hk, h5 k hk⟩
  rcases h3 k hk hI with ⟨t, t1, t2⟩ | ⟨e', e1, e2, e3⟩
  · obtain ⟨a1, a2, a3, a4, a5⟩ := h2 t t1
    rw [t2] at a4 a5
    rw [a4, a5, bi_C_end (Nat.le_refl _)]; rfl
  · rw [e2, e3]; rfl
section
variable {f_cap f_depth f_size f_paragraph f_lines f_resolved f_top f_overflowIsolates f_overflowEmbeddings f_validIsolates f_seqLen f_seqLevel f_runDir f_sos f_eos f_openCount : Int32} {a_text a_breakAfter a_partner a_level a_type a_prevKept a_nextKept a_implicit a_pair a_valid a_taken a_stackLevel a_stackOverride a_stackIsolate a_seq a_kind a_mate a_openAt a_wasMark a_lineFirst a_lineSlot a_lineLv a_order a_place : Nat → Int32}
theorem bx_match_loop {post : SX → Prop} {N : Nat} (hN : N ≤ 32)
    (hC : ∀ (oc : Int32) (pt oa va : Nat → Int32), bi_PM a_text N pt → (∀ k, k < N → va k = 0) → post (f_cap, f_depth, nI N, f_paragraph, f_lines, f_resolved, f_top, f_overflowIsolates, f_overflowEmbeddings, f_validIsolates, f_seqLen, f_seqLevel, f_runDir, f_sos, f_eos, oc, a_text, a_breakAfter, pt, a_level, a_type, a_prevKept, a_nextKept, a_implicit, a_pair, va, a_taken, a_stackLevel, a_stackOverride, a_stackIsolate, a_seq, a_kind, a_mate, oa, a_wasMark, a_lineFirst, a_lineSlot, a_lineLv, a_order, a_place)) :
    ∀ (n i c : Nat) (o : Nat → Nat) (pt oa va : Nat → Int32), i ≤ N → N - i < n → bi_MI a_text N i c o pt oa va → wX_matchIsolates_7 post f_cap f_depth (nI N) f_paragraph f_lines f_resolved f_top f_overflowIsolates f_overflowEmbeddings f_validIsolates f_seqLen f_seqLevel f_runDir f_sos f_eos n (nI i) (nI c) a_text a_breakAfter pt a_level a_type a_prevKept a_nextKept a_implicit a_pair va a_taken a_stackLevel a_stackOverride a_stackIsolate a_seq a_kind a_mate oa a_wasMark a_lineFirst a_lineSlot a_lineLv a_order a_place := by
  intro n
  induction n with
  | zero => intro i c o pt oa va _ h; omega
  | succ n ih =>
    intro i c o pt oa va hi hn h
    by_cases z : N ≤ i
    · have e : i = N := by omega
      subst e
      exact br_t (nI_le (by omega) (by omega)) (hC _ _ _ _ (bi_MI_end h) h.2.2.2.2.2)
    · refine br_f (nI_ge (by omega) (by omega)) ?_
      have hc := h.1
      have hv := vp_in_nI (n := i) (N := 32) (by omega) (by omega)
      rw [nI_clamp (n := i) (by omega), nI_clamp (n := c) (by omega)]
      refine And.intro hv (nm_e (And.intro hv (nm_e (And.intro hv (bx_ifI (fun hI => ?_) (fun hI => ?_))))))
      · unfold wX_matchIsolates_59
        rw [nI_clamp (n := i) (by omega)]
        refine And.intro hv (br_c (fun hP => ?_) (fun hP => ?_))
        · by_cases c0 : c = 0
          · subst c0
            exact br_t (by decide) (nm_r (nI_1 i) (ih (i + 1) 0 o _ _ _ (by omega) (by omega) (bi_MI_none (by omega) hP h)))
          · obtain ⟨d, rfl⟩ : ∃ d, c = d + 1 := ⟨c - 1, by omega⟩
            obtain ⟨b1, b2, b3, b4, b5⟩ := h.2.1 d (by omega)
            refine br_f (nI_nle (by omega) (by omega)) (nm_r (nI_pred d) ?_)
            rw [nI_pred, nI_clamp (n := d) (by omega), b1]
            refine And.intro (vp_in_nI (by omega) (by omega)) (And.intro hv (nm_e (And.intro hv ?_)))
            rw [pk_us, nI_clamp (n := o d) (by omega)]
            exact And.intro (vp_in_nI (by omega) (by omega)) (nm_e (nm_r (nI_1 i) (ih (i + 1) d o _ _ _ (by omega) (by omega) (bi_MI_pop (by omega) hP h))))
        · exact nm_r (nI_1 i) (ih (i + 1) c o _ _ _ (by omega) (by omega) (bi_MI_other (by omega) hI hP h))
      · refine nm_r (nI_1 c) (And.intro (vp_in_nI (by omega) (by omega)) (nm_e ?_))
        unfold wX_matchIsolates_59
        rw [nI_clamp (n := i) (by omega)]
        exact And.intro hv (br_f (fun hP => bi_I22 hP hI) (nm_r (nI_1 i) (ih (i + 1) (c + 1) _ _ _ _ (by omega) (by omega) (bi_MI_push (by omega) hI h))))
theorem bx_match {post : SX → Prop} {N : Nat} (hN : N ≤ 32)
    (hC : ∀ (oc : Int32) (pt oa va : Nat → Int32), bi_PM a_text N pt → (∀ k, k < N → va k = 0) → post (f_cap, f_depth, nI N, f_paragraph, f_lines, f_resolved, f_top, f_overflowIsolates, f_overflowEmbeddings, f_validIsolates, f_seqLen, f_seqLevel, f_runDir, f_sos, f_eos, oc, a_text, a_breakAfter, pt, a_level, a_type, a_prevKept, a_nextKept, a_implicit, a_pair, va, a_taken, a_stackLevel, a_stackOverride, a_stackIsolate, a_seq, a_kind, a_mate, oa, a_wasMark, a_lineFirst, a_lineSlot, a_lineLv, a_order, a_place)) : wpX_matchIsolates post (f_cap, f_depth, nI N, f_paragraph, f_lines, f_resolved, f_top, f_overflowIsolates, f_overflowEmbeddings, f_validIsolates, f_seqLen, f_seqLevel, f_runDir, f_sos, f_eos, f_openCount, a_text, a_breakAfter, a_partner, a_level, a_type, a_prevKept, a_nextKept, a_implicit, a_pair, a_valid, a_taken, a_stackLevel, a_stackOverride, a_stackIsolate, a_seq, a_kind, a_mate, a_openAt, a_wasMark, a_lineFirst, a_lineSlot, a_lineLv, a_order, a_place) :=
  Exists.intro 33 (bx_match_loop hN hC 33 0 0 (fun _ => 0) _ _ _ (by omega) (by omega) ⟨by omega, fun t h => by omega, fun k h => by omega, fun k h => by omega, fun k h => by omega, fun k h => by omega⟩)
end
/-- what the component's hiddenTo says at x -/
def bi_HV (T : Nat → Int32) (N a b x h : Nat) : Prop :=
  (h ≤ x ∧ ∀ i, a ≤ i → i < x → bi_I (T i) → ∃ e, bi_cl T N i = some e ∧ e ≤ x) ∨
  (x < h ∧ ∃ i0, a ≤ i0 ∧ i0 < x ∧ bi_I (T i0) ∧ (∀ i, a ≤ i → i < i0 → bi_I (T i) → ∃ e, bi_cl T N i = some e ∧ e ≤ i0) ∧ (bi_cl T N i0 = some h ∨ (bi_cl T N i0 = none ∧ h = b)))
theorem bi_HV_hd {T : Nat → Int32} {N a b x h : Nat} (H : bi_HV T N a b x h) : x < h ↔ bi_hd T N a x := by
  rcases H with ⟨h1, h2⟩ | ⟨h1, i0, h2, h3, h4, h5, h6⟩
  · refine ⟨fun z => by omega, fun z => ?_⟩
    obtain ⟨i, i1, i2, i3, i4⟩ := z
    obtain ⟨e, e1, e2⟩ := h2 i i1 i2 i3
    have := i4 e e1
    omega
  · refine ⟨fun _ => ⟨i0, h2, h3, h4, fun e he => ?_⟩, fun _ => h1⟩
    rcases h6 with q | q
    · rw [q] at he
      cases he
      exact h1
    · rw [q.1] at he; cases he
theorem bi_HV_hid {T : Nat → Int32} {N a b x h : Nat} (H : bi_HV T N a b x h) (hx : x < h) (hb : x + 1 < b) : bi_HV T N a b (x + 1) h := by
  rcases H with ⟨h1, h2⟩ | ⟨h1, i0, h2, h3, h4, h5, h6⟩
  · omega
  · by_cases z : x + 1 < h
    · exact Or.inr ⟨z, i0, h2, by omega, h4, h5, h6⟩
    · have e : h = x + 1 := by omega
      rcases h6 with q | q
      · refine Or.inl ⟨by omega, fun i i1 i2 i3 => ?_⟩
        rcases Nat.lt_trichotomy i i0 with w | w | w
        · obtain ⟨e', e1, e2⟩ := h5 i i1 w i3
          exact ⟨e', e1, by omega⟩
        · subst w; exact ⟨h, q, by omega⟩
        · obtain ⟨e', e1, e2⟩ := bi_nest q w (by omega) i3
          exact ⟨e', e1, by omega⟩
      · omega
theorem bi_HV_vis {T : Nat → Int32} {N a b x h : Nat} (H : bi_HV T N a b x h) (hx : ¬ x < h) (hI : ¬ bi_I (T x)) : bi_HV T N a b (x + 1) h := by
  rcases H with ⟨h1, h2⟩ | ⟨h1, _⟩
  · refine Or.inl ⟨by omega, fun i i1 i2 i3 => ?_⟩
    have e : i ≠ x := fun z => by subst z; exact hI i3
    obtain ⟨e', e1, e2⟩ := h2 i i1 (by omega) i3
    exact ⟨e', e1, by omega⟩
  · omega
theorem bi_HV_ini {T : Nat → Int32} {N a b x h : Nat} (H : bi_HV T N a b x h) (hx : ¬ x < h) (ha : a ≤ x) (hI : bi_I (T x)) (hb : x + 1 < b) : (∀ e, bi_cl T N x = some e → bi_HV T N a b (x + 1) e) ∧ (bi_cl T N x = none → bi_HV T N a b (x + 1) b) := by
  rcases H with ⟨h1, h2⟩ | ⟨h1, _⟩
  · refine ⟨fun e he => ?_, fun he => Or.inr ⟨hb, x, ha, by omega, hI, h2, Or.inr ⟨he, rfl⟩⟩⟩
    have hv := bi_cl_val he
    by_cases z : e = x + 1
    · refine Or.inl ⟨by omega, fun i i1 i2 i3 => ?_⟩
      by_cases q : i = x
      · subst q; exact ⟨e, he, by omega⟩
      · obtain ⟨e', e1, e2⟩ := h2 i i1 (by omega) i3
        exact ⟨e', e1, by omega⟩
    · exact Or.inr ⟨by omega, x, ha, by omega, hI, h2, Or.inl he⟩
  · omega
theorem bi_I2 {c : Int32} (h : bi_I c) : 2 < c := by
  have h1 := h.1
  rw [Int32.lt_iff_toInt_lt] at h1 ⊢
  have e1 : (19 : Int32).toInt = 19 := by decide
  have e2 : (2 : Int32).toInt = 2 := by decide
  omega
section
variable {f_cap f_depth f_size f_paragraph f_lines f_resolved f_top f_overflowIsolates f_overflowEmbeddings f_validIsolates f_seqLen f_seqLevel f_runDir f_sos f_eos f_openCount : Int32} {a_text a_breakAfter a_partner a_level a_type a_prevKept a_nextKept a_implicit a_pair a_valid a_taken a_stackLevel a_stackOverride a_stackIsolate a_seq a_kind a_mate a_openAt a_wasMark a_lineFirst a_lineSlot a_lineLv a_order a_place : Nat → Int32}
theorem bx_auto_loop {post : Int32 → Prop} {a b N : Nat} {o : Option Nat} (hN : N ≤ 32) (hb : b ≤ N) (hp : bi_PM a_text N a_partner) (ho : bi_AU a_text N a b o) (k : post (bi_au a_text o)) :
    ∀ f x h, a ≤ x → x ≤ N → h ≤ N → b - x < f → (∀ g, o = some g → x ≤ g) → (x < b → bi_HV a_text N a b x h) → wX_autoLevel_5 post (nI b) f_cap f_depth f_size f_paragraph f_lines f_resolved f_top f_overflowIsolates f_overflowEmbeddings f_validIsolates f_seqLen f_seqLevel f_runDir f_sos f_eos f_openCount a_text a_breakAfter a_partner a_level a_type a_prevKept a_nextKept a_implicit a_pair a_valid a_taken a_stackLevel a_stackOverride a_stackIsolate a_seq a_kind a_mate a_openAt a_wasMark a_lineFirst a_lineSlot a_lineLv a_order a_place f (nI h) (nI x) := by
  intro f
  induction f with
  | zero => intro x h _ _ _ q; omega
  | succ f ih =>
    intro x h h1 h2 h3 h4 h5 H
    by_cases z : b ≤ x
    · refine br_t (nI_le z (by omega)) ?_
      cases o with
      | none => exact k
      | some g => have := ho.1 g rfl; have := h5 g rfl; omega
    · have H := H (by omega)
      have next : ∀ h', h' ≤ N → ((¬ 2 < a_text x → bi_hd a_text N a x)) → (x + 1 < b → bi_HV a_text N a b (x + 1) h') → wX_autoLevel_5 post (nI b) f_cap f_depth f_size f_paragraph f_lines f_resolved f_top f_overflowIsolates f_overflowEmbeddings f_validIsolates f_seqLen f_seqLevel f_runDir f_sos f_eos f_openCount a_text a_breakAfter a_partner a_level a_type a_prevKept a_nextKept a_implicit a_pair a_valid a_taken a_stackLevel a_stackOverride a_stackIsolate a_seq a_kind a_mate a_openAt a_wasMark a_lineFirst a_lineSlot a_lineLv a_order a_place f (nI h') (nI (x + 1)) := by
        intro h' hh q H'
        refine ih (x + 1) h' (by omega) (by omega) hh (by omega) (fun g eg => ?_) H'
        have g1 := ho.1 g eg
        have g2 := h5 g eg
        by_cases e : x = g
        · subst e; exact absurd (q g1.2.2.1) g1.2.2.2
        · omega
      have hv := vp_in_nI (n := x) (N := 32) (by omega) (by omega)
      have h43 : (¬ 2 < a_text x → bi_hd a_text N a x) → wX_autoLevel_43 post (wX_autoLevel_5 post (nI b) f_cap f_depth f_size f_paragraph f_lines f_resolved f_top f_overflowIsolates f_overflowEmbeddings f_validIsolates f_seqLen f_seqLevel f_runDir f_sos f_eos f_openCount a_text a_breakAfter a_partner a_level a_type a_prevKept a_nextKept a_implicit a_pair a_valid a_taken a_stackLevel a_stackOverride a_stackIsolate a_seq a_kind a_mate a_openAt a_wasMark a_lineFirst a_lineSlot a_lineLv a_order a_place f) (nI b) (nI h) (nI x) (a_text x) f_cap f_depth f_size f_paragraph f_lines f_resolved f_top f_overflowIsolates f_overflowEmbeddings f_validIsolates f_seqLen f_seqLevel f_runDir f_sos f_eos f_openCount a_text a_breakAfter a_partner a_level a_type a_prevKept a_nextKept a_implicit a_pair a_valid a_taken a_stackLevel a_stackOverride a_stackIsolate a_seq a_kind a_mate a_openAt a_wasMark a_lineFirst a_lineSlot a_lineLv a_order a_place := by
        intro q
        unfold wX_autoLevel_43
        rw [nI_clamp (n := x) (by omega)]
        by_cases hx : x < h
        · exact br_t (nI_lt hx (by omega)) (nm_r (nI_1 x) (next h h3 q (fun w => bi_HV_hid H hx w)))
        · refine br_f (nI_nlt (by omega) (by omega)) (bx_ifI (fun hI => nm_r (nI_1 x) (next h h3 q (fun _ => bi_HV_vis H hx hI))) (fun hI => And.intro hv ?_))
          rw [(hp x (by omega)).1 hI]
          refine bi_o_le (bi_cl_lt hN) (fun e => nm_r (nI_1 x) (next b hb q (fun w => (bi_HV_ini H hx h1 hI w).2 e))) (fun e he => And.intro hv (nm_r (e' := nI e) (by rw [he]; rfl) (nm_r (nI_1 x) (next e (by have := bi_cl_val he; omega) q (fun w => (bi_HV_ini H hx h1 hI w).1 e he)))))
      refine br_f (nI_ge (by omega) (by omega)) ?_
      rw [nI_clamp (n := x) (by omega)]
      refine And.intro hv (nm_e ?_)
      by_cases hx : x < h
      · exact br_t (nI_lt hx (by omega)) (h43 (fun _ => (bi_HV_hd H).mp hx))
      · refine br_f (nI_nlt (by omega) (by omega)) (br_c (fun w => h43 (fun q => absurd w q)) (fun w => ?_))
        have nh : ¬ bi_hd a_text N a x := fun q => hx ((bi_HV_hd H).mpr q)
        have eo : o = some x := by
          cases o with
          | none => exact absurd (ho.2 x h1 (by omega) (fun f ef => by cases ef) w) nh
          | some g =>
            by_cases e : g = x
            · rw [e]
            · exact absurd (ho.2 x h1 (by omega) (fun f ef => by cases ef; have := h5 g rfl; omega) w) nh
        rw [eo, bi_au_s] at k
        refine br_c (fun e => ?_) (fun e => ?_)
        · rw [if_pos e] at k; exact k
        · rw [if_neg e] at k; exact k
theorem bx_auto {post : Int32 → Prop} {a b N : Nat} {o : Option Nat} (hN : N ≤ 32) (ha : a ≤ N) (hb : b ≤ N) (hp : bi_PM a_text N a_partner) (ho : bi_AU a_text N a b o) (k : post (bi_au a_text o)) : wpX_autoLevel post (f_cap, f_depth, f_size, f_paragraph, f_lines, f_resolved, f_top, f_overflowIsolates, f_overflowEmbeddings, f_validIsolates, f_seqLen, f_seqLevel, f_runDir, f_sos, f_eos, f_openCount, a_text, a_breakAfter, a_partner, a_level, a_type, a_prevKept, a_nextKept, a_implicit, a_pair, a_valid, a_taken, a_stackLevel, a_stackOverride, a_stackIsolate, a_seq, a_kind, a_mate, a_openAt, a_wasMark, a_lineFirst, a_lineSlot, a_lineLv, a_order, a_place) (nI a) (nI b) :=
  Exists.intro 33 (bx_auto_loop hN hb hp ho k 33 a a (Nat.le_refl _) ha ha (by omega) (fun g e => (ho.1 g e).1) (fun _ => Or.inl ⟨Nat.le_refl _, fun i i1 i2 => by omega⟩))
end
end
section
/-! the component's explicit levels: one step -/
def bi_ty (c so : Int32) : Int32 := if c = 10 then 10 else if so = -1 then (if c ≤ 22 then c else 13) else so
def bi_sl (c p l : Int32) : Int32 := if c = 10 then p else l
def bi_ov (c : Int32) : Int32 := if c = 15 then 0 else if c = 17 then 1 else -1
def bi_nx (l : Nat) (r : Bool) : Nat := if r = true then l + 1 + l % 2 else l + 2 - l % 2
theorem bi_nx_gt (l : Nat) (r : Bool) : l < bi_nx l r ∧ bi_nx l r ≤ l + 2 := by
  unfold bi_nx
  cases r <;> simp <;> omega
theorem bi_nx_t : ∀ l, l < 13 → (nI l + 1) ||| 1 = nI (bi_nx l true) := by decide +kernel
theorem bi_nx_f : ∀ l, l < 13 → (nI l + 2) &&& (-2) = nI (bi_nx l false) := by decide +kernel
/-- where the search for the last isolate entry stops -/
def bi_pt (SI : Nat → Int32) : Nat → Nat
  | 0 => 0
  | t + 1 => if SI (t + 1) = 0 then bi_pt SI t else t + 1
theorem bi_pt_le (SI : Nat → Int32) : ∀ t, bi_pt SI t ≤ t
  | 0 => Nat.le_refl _
  | t + 1 => by
    have := bi_pt_le SI t
    simp only [bi_pt]
    split <;> omega
section
variable {f_cap f_depth f_size f_paragraph f_lines f_resolved f_top f_overflowIsolates f_overflowEmbeddings f_validIsolates f_seqLen f_seqLevel f_runDir f_sos f_eos f_openCount : Int32} {a_text a_breakAfter a_partner a_level a_type a_prevKept a_nextKept a_implicit a_pair a_valid a_taken a_stackLevel a_stackOverride a_stackIsolate a_seq a_kind a_mate a_openAt a_wasMark a_lineFirst a_lineSlot a_lineLv a_order a_place : Nat → Int32}
theorem bx_stamp57 {post : SX → Prop} {i : Nat} {so z : Int32} (hi : i < 32)
    (k : post (f_cap, f_depth, f_size, f_paragraph, f_lines, f_resolved, f_top, f_overflowIsolates, f_overflowEmbeddings, f_validIsolates, f_seqLen, f_seqLevel, f_runDir, f_sos, f_eos, f_openCount, a_text, a_breakAfter, a_partner, upd a_level i z, upd a_type i (if so = -1 then (if a_text i ≤ 22 then a_text i else 13) else so), a_prevKept, a_nextKept, a_implicit, a_pair, a_valid, a_taken, a_stackLevel, a_stackOverride, a_stackIsolate, a_seq, a_kind, a_mate, a_openAt, a_wasMark, a_lineFirst, a_lineSlot, a_lineLv, a_order, a_place)) : wX_stamp_57 post (nI i) so z (nI i) f_cap f_depth f_size f_paragraph f_lines f_resolved f_top f_overflowIsolates f_overflowEmbeddings f_validIsolates f_seqLen f_seqLevel f_runDir f_sos f_eos f_openCount a_text a_breakAfter a_partner a_level a_type a_prevKept a_nextKept a_implicit a_pair a_valid a_taken a_stackLevel a_stackOverride a_stackIsolate a_seq a_kind a_mate a_openAt a_wasMark a_lineFirst a_lineSlot a_lineLv a_order a_place := by
  unfold wX_stamp_57
  rw [nI_clamp (n := i) (by omega)]
  have hv := vp_in_nI (n := i) (N := 32) hi (by omega)
  refine And.intro hv (nm_e (br_c (fun h => And.intro hv (br_c (fun h2 => ?_) (fun h2 => ?_))) (fun h => ?_)))
  · rw [if_pos h, if_pos h2] at k
    exact And.intro hv (And.intro hv (nm_e k))
  · rw [if_pos h, if_neg h2] at k
    exact And.intro hv (nm_e k)
  · rw [if_neg h] at k
    exact And.intro hv (nm_e k)
theorem bx_stamp {post : SX → Prop} {i t : Nat} (hi : i < 32) (ht : t < 16)
    (k : post (f_cap, f_depth, f_size, f_paragraph, f_lines, f_resolved, nI t, f_overflowIsolates, f_overflowEmbeddings, f_validIsolates, f_seqLen, f_seqLevel, f_runDir, f_sos, f_eos, f_openCount, a_text, a_breakAfter, a_partner, upd a_level i (bi_sl (a_text i) f_paragraph (a_stackLevel t)), upd a_type i (bi_ty (a_text i) (a_stackOverride t)), a_prevKept, a_nextKept, a_implicit, a_pair, a_valid, a_taken, a_stackLevel, a_stackOverride, a_stackIsolate, a_seq, a_kind, a_mate, a_openAt, a_wasMark, a_lineFirst, a_lineSlot, a_lineLv, a_order, a_place)) : wpX_stamp post (f_cap, f_depth, f_size, f_paragraph, f_lines, f_resolved, nI t, f_overflowIsolates, f_overflowEmbeddings, f_validIsolates, f_seqLen, f_seqLevel, f_runDir, f_sos, f_eos, f_openCount, a_text, a_breakAfter, a_partner, a_level, a_type, a_prevKept, a_nextKept, a_implicit, a_pair, a_valid, a_taken, a_stackLevel, a_stackOverride, a_stackIsolate, a_seq, a_kind, a_mate, a_openAt, a_wasMark, a_lineFirst, a_lineSlot, a_lineLv, a_order, a_place) (nI i) := by
  unfold wpX_stamp
  have hv := vp_in_nI (n := i) (N := 32) hi (by omega)
  have hw := vp_in_nI (n := t) (N := 16) ht (by omega)
  unfold bi_sl bi_ty at k
  refine And.intro hv ?_
  rw [nI_clamp (n := i) (by omega), nI_clamp (n := t) (by omega)]
  refine br_c (fun h => ?_) (fun h => And.intro hw ?_)
  · rw [if_pos h, if_pos h] at k
    unfold wX_stamp_24
    refine And.intro hv ?_
    rw [nI_clamp (n := i) (by omega)]
    refine br_t h (bx_stamp57 hi ?_)
    rw [if_pos rfl, h, if_pos (by decide)]
    exact k
  · rw [if_neg h, if_neg h] at k
    unfold wX_stamp_24
    refine And.intro hv ?_
    rw [nI_clamp (n := i) (by omega), nI_clamp (n := t) (by omega)]
    exact br_f h (And.intro hw (bx_stamp57 hi k))
theorem bx_push {post : SX → Prop} {t : Nat} {l o : Int32} (z : Int32) (hz : z = 0 ∨ z = 1) (ht : t + 1 < 16)
    (k : post (f_cap, f_depth, f_size, f_paragraph, f_lines, f_resolved, nI (t + 1), f_overflowIsolates, f_overflowEmbeddings, f_validIsolates, f_seqLen, f_seqLevel, f_runDir, f_sos, f_eos, f_openCount, a_text, a_breakAfter, a_partner, a_level, a_type, a_prevKept, a_nextKept, a_implicit, a_pair, a_valid, a_taken, upd a_stackLevel (t + 1) l, upd a_stackOverride (t + 1) o, upd a_stackIsolate (t + 1) z, a_seq, a_kind, a_mate, a_openAt, a_wasMark, a_lineFirst, a_lineSlot, a_lineLv, a_order, a_place)) : wpX_push post (f_cap, f_depth, f_size, f_paragraph, f_lines, f_resolved, nI t, f_overflowIsolates, f_overflowEmbeddings, f_validIsolates, f_seqLen, f_seqLevel, f_runDir, f_sos, f_eos, f_openCount, a_text, a_breakAfter, a_partner, a_level, a_type, a_prevKept, a_nextKept, a_implicit, a_pair, a_valid, a_taken, a_stackLevel, a_stackOverride, a_stackIsolate, a_seq, a_kind, a_mate, a_openAt, a_wasMark, a_lineFirst, a_lineSlot, a_lineLv, a_order, a_place) l o z := by
  unfold wpX_push
  have hw := vp_in_nI (n := t + 1) (N := 16) ht (by omega)
  have ez : vp_nar .boolean z = z := by rcases hz with h | h <;> rw [h] <;> rfl
  refine nm_r (nI_1 t) ?_
  rw [nI_clamp (n := t + 1) (by omega), ez]
  exact And.intro hw (nm_e (And.intro hw (nm_e (And.intro hw (nm_e k)))))
theorem bx_push0 {post : SX → Prop} {l o : Int32} (k : post (f_cap, f_depth, f_size, f_paragraph, f_lines, f_resolved, 0, f_overflowIsolates, f_overflowEmbeddings, f_validIsolates, f_seqLen, f_seqLevel, f_runDir, f_sos, f_eos, f_openCount, a_text, a_breakAfter, a_partner, a_level, a_type, a_prevKept, a_nextKept, a_implicit, a_pair, a_valid, a_taken, upd a_stackLevel 0 l, upd a_stackOverride 0 o, upd a_stackIsolate 0 0, a_seq, a_kind, a_mate, a_openAt, a_wasMark, a_lineFirst, a_lineSlot, a_lineLv, a_order, a_place)) : wpX_push post (f_cap, f_depth, f_size, f_paragraph, f_lines, f_resolved, -1, f_overflowIsolates, f_overflowEmbeddings, f_validIsolates, f_seqLen, f_seqLevel, f_runDir, f_sos, f_eos, f_openCount, a_text, a_breakAfter, a_partner, a_level, a_type, a_prevKept, a_nextKept, a_implicit, a_pair, a_valid, a_taken, a_stackLevel, a_stackOverride, a_stackIsolate, a_seq, a_kind, a_mate, a_openAt, a_wasMark, a_lineFirst, a_lineSlot, a_lineLv, a_order, a_place) l o 0 := by
  unfold wpX_push
  have hw : vp_in (0 : Int32) 16 := vp_in_nI (n := 0) (N := 16) (by omega) (by omega)
  refine nm_r (e' := 0) (by decide) ?_
  rw [show (0 : Int32).toNatClampNeg = 0 by decide]
  exact And.intro hw (nm_e (And.intro hw (nm_e (And.intro hw (nm_e k)))))
theorem bx_next {post : Int32 → Prop} {t l : Nat} (r : Bool) (ht : t < 16) (hl : l < 13) (e : a_stackLevel t = nI l) (k : post (nI (bi_nx l r))) : wpX_nextLevel post (f_cap, f_depth, f_size, f_paragraph, f_lines, f_resolved, nI t, f_overflowIsolates, f_overflowEmbeddings, f_validIsolates, f_seqLen, f_seqLevel, f_runDir, f_sos, f_eos, f_openCount, a_text, a_breakAfter, a_partner, a_level, a_type, a_prevKept, a_nextKept, a_implicit, a_pair, a_valid, a_taken, a_stackLevel, a_stackOverride, a_stackIsolate, a_seq, a_kind, a_mate, a_openAt, a_wasMark, a_lineFirst, a_lineSlot, a_lineLv, a_order, a_place) (bi_b r) := by
  unfold wpX_nextLevel
  have hw := vp_in_nI (n := t) (N := 16) ht (by omega)
  refine bi_bz r (fun h => And.intro hw ?_) (fun h => And.intro hw ?_)
  · rw [nI_clamp (n := t) (by omega), e, bi_nx_f l hl]
    subst h; exact k
  · rw [nI_clamp (n := t) (by omega), e, bi_nx_t l hl]
    subst h; exact k
theorem bx_admits {post : Int32 → Prop} {D x oi oe : Nat} (hD : D ≤ 12) (hx : x < 2 ^ 31) (h1 : oi < 2 ^ 31) (h2 : oe < 2 ^ 31) (k1 : x ≤ D ∧ oi = 0 ∧ oe = 0 → post 1) (k0 : ¬ (x ≤ D ∧ oi = 0 ∧ oe = 0) → post 0) : wpX_admits post (f_cap, nI D, f_size, f_paragraph, f_lines, f_resolved, f_top, nI oi, nI oe, f_validIsolates, f_seqLen, f_seqLevel, f_runDir, f_sos, f_eos, f_openCount, a_text, a_breakAfter, a_partner, a_level, a_type, a_prevKept, a_nextKept, a_implicit, a_pair, a_valid, a_taken, a_stackLevel, a_stackOverride, a_stackIsolate, a_seq, a_kind, a_mate, a_openAt, a_wasMark, a_lineFirst, a_lineSlot, a_lineLv, a_order, a_place) (nI x) := by
  unfold wpX_admits
  by_cases a : D < x
  · exact br_t (nI_lt a hx) (k0 (by omega))
  · refine br_f (nI_nlt (by omega) (by omega)) ?_
    by_cases b : oi = 0
    · refine br_t ((bi_eq0 h1).mpr b) ?_
      by_cases c : oe = 0
      · exact br_t ((bi_eq0 h2).mpr c) (k1 ⟨by omega, b, c⟩)
      · exact br_f (fun z => c ((bi_eq0 h2).mp z)) (k0 (by omega))
    · exact br_f (fun z => b ((bi_eq0 h1).mp z)) (k0 (by omega))
theorem bx_embed {post : SX → Prop} {D t l oi oe : Nat} {c : Int32} (r : Bool) (hr : r = true ↔ ¬ c < 16) (hD : D ≤ 12) (ht : t + 1 < 16) (hl : l < 13) (h1 : oi < 2 ^ 30) (h2 : oe < 2 ^ 30) (e : a_stackLevel t = nI l)
    (k1 : bi_nx l r ≤ D ∧ oi = 0 ∧ oe = 0 → post (f_cap, nI D, f_size, f_paragraph, f_lines, f_resolved, nI (t + 1), nI oi, nI oe, f_validIsolates, f_seqLen, f_seqLevel, f_runDir, f_sos, f_eos, f_openCount, a_text, a_breakAfter, a_partner, a_level, a_type, a_prevKept, a_nextKept, a_implicit, a_pair, a_valid, a_taken, upd a_stackLevel (t + 1) (nI (bi_nx l r)), upd a_stackOverride (t + 1) (bi_ov c), upd a_stackIsolate (t + 1) 0, a_seq, a_kind, a_mate, a_openAt, a_wasMark, a_lineFirst, a_lineSlot, a_lineLv, a_order, a_place))
    (k2 : ¬ (bi_nx l r ≤ D ∧ oi = 0 ∧ oe = 0) → oi = 0 → post (f_cap, nI D, f_size, f_paragraph, f_lines, f_resolved, nI t, nI oi, nI (oe + 1), f_validIsolates, f_seqLen, f_seqLevel, f_runDir, f_sos, f_eos, f_openCount, a_text, a_breakAfter, a_partner, a_level, a_type, a_prevKept, a_nextKept, a_implicit, a_pair, a_valid, a_taken, a_stackLevel, a_stackOverride, a_stackIsolate, a_seq, a_kind, a_mate, a_openAt, a_wasMark, a_lineFirst, a_lineSlot, a_lineLv, a_order, a_place))
    (k3 : ¬ (bi_nx l r ≤ D ∧ oi = 0 ∧ oe = 0) → ¬ oi = 0 → post (f_cap, nI D, f_size, f_paragraph, f_lines, f_resolved, nI t, nI oi, nI oe, f_validIsolates, f_seqLen, f_seqLevel, f_runDir, f_sos, f_eos, f_openCount, a_text, a_breakAfter, a_partner, a_level, a_type, a_prevKept, a_nextKept, a_implicit, a_pair, a_valid, a_taken, a_stackLevel, a_stackOverride, a_stackIsolate, a_seq, a_kind, a_mate, a_openAt, a_wasMark, a_lineFirst, a_lineSlot, a_lineLv, a_order, a_place)) :
    wpX_openEmbedding post (f_cap, nI D, f_size, f_paragraph, f_lines, f_resolved, nI t, nI oi, nI oe, f_validIsolates, f_seqLen, f_seqLevel, f_runDir, f_sos, f_eos, f_openCount, a_text, a_breakAfter, a_partner, a_level, a_type, a_prevKept, a_nextKept, a_implicit, a_pair, a_valid, a_taken, a_stackLevel, a_stackOverride, a_stackIsolate, a_seq, a_kind, a_mate, a_openAt, a_wasMark, a_lineFirst, a_lineSlot, a_lineLv, a_order, a_place) c := by
  have hn := bi_nx_gt l r
  have h37 : wX_openEmbedding_37 post (nI (bi_nx l r)) (bi_ov c) f_cap (nI D) f_size f_paragraph f_lines f_resolved (nI t) (nI oi) (nI oe) f_validIsolates f_seqLen f_seqLevel f_runDir f_sos f_eos f_openCount a_text a_breakAfter a_partner a_level a_type a_prevKept a_nextKept a_implicit a_pair a_valid a_taken a_stackLevel a_stackOverride a_stackIsolate a_seq a_kind a_mate a_openAt a_wasMark a_lineFirst a_lineSlot a_lineLv a_order a_place := by
    unfold wX_openEmbedding_37
    refine bx_admits hD (by omega) (by omega) (by omega) (fun a => br_f (by decide) (bx_push 0 (Or.inl rfl) ht (k1 a))) (fun a => br_t rfl ?_)
    by_cases b : oi = 0
    · exact br_t ((bi_eq0 (by omega)).mpr b) (nm_r (nI_1 oe) (k2 a b))
    · exact br_f (fun z => b ((bi_eq0 (by omega)).mp z)) (k3 a b)
  have h12 : wX_openEmbedding_12 post c (bi_b r) f_cap (nI D) f_size f_paragraph f_lines f_resolved (nI t) (nI oi) (nI oe) f_validIsolates f_seqLen f_seqLevel f_runDir f_sos f_eos f_openCount a_text a_breakAfter a_partner a_level a_type a_prevKept a_nextKept a_implicit a_pair a_valid a_taken a_stackLevel a_stackOverride a_stackIsolate a_seq a_kind a_mate a_openAt a_wasMark a_lineFirst a_lineSlot a_lineLv a_order a_place := by
    unfold wX_openEmbedding_12
    refine bx_next r (by omega) hl e ?_
    unfold bi_ov at h37
    refine br_c (fun q => ?_) (fun q => br_c (fun q2 => ?_) (fun q2 => ?_))
    · rw [if_pos q] at h37; exact h37
    · rw [if_neg q, if_pos q2] at h37; exact h37
    · rw [if_neg q, if_neg q2] at h37; exact h37
  unfold wpX_openEmbedding
  refine br_c (fun q => ?_) (fun q => ?_)
  · have : r = false := by cases r; rfl; exact absurd q (hr.mp rfl)
    subst this; exact h12
  · have : r = true := hr.mpr q
    subst this; exact h12
end
def bi_end (T : Nat → Int32) (N i : Nat) : Nat := match bi_cl T N i with
  | some e => e
  | none => N
theorem bi_end_le {T : Nat → Int32} {N i : Nat} : bi_end T N i ≤ N := by
  unfold bi_end
  cases h : bi_cl T N i with
  | none => exact Nat.le_refl _
  | some e => have := bi_cl_val h; exact Nat.le_of_lt this.2.1
/-- r: the code at i would push an odd level -/
def bi_RT (T : Nat → Int32) (N i : Nat) (r : Bool) : Prop := ∃ o, bi_AU T N (i + 1) (bi_end T N i) o ∧ (r = true ↔ (if T i = 21 then bi_au T o = 1 else (T i = 16 ∨ T i = 17 ∨ T i = 20)))
theorem bi_RT_ex (T : Nat → Int32) (N i : Nat) : ∃ r, bi_RT T N i r := by
  obtain ⟨o, ho⟩ := bi_AU_ex T N (i + 1) (bi_end T N i)
  refine ⟨decide (if T i = 21 then bi_au T o = 1 else (T i = 16 ∨ T i = 17 ∨ T i = 20)), o, ho, ?_⟩
  rw [decide_eq_true_iff]
section
variable {f_cap f_depth f_size f_paragraph f_lines f_resolved f_top f_overflowIsolates f_overflowEmbeddings f_validIsolates f_seqLen f_seqLevel f_runDir f_sos f_eos f_openCount : Int32} {a_text a_breakAfter a_partner a_level a_type a_prevKept a_nextKept a_implicit a_pair a_valid a_taken a_stackLevel a_stackOverride a_stackIsolate a_seq a_kind a_mate a_openAt a_wasMark a_lineFirst a_lineSlot a_lineLv a_order a_place : Nat → Int32}
theorem bx_iso {post : SX → Prop} {N D t l oi oe vi i : Nat} (r : Bool) (hr : bi_RT a_text N i r) (hN : N ≤ 32) (hi : i < N) (hI : bi_I (a_text i)) (hp : bi_PM a_text N a_partner) (hD : D ≤ 12) (ht : t + 1 < 16) (hl : l < 13) (h1 : oi < 2 ^ 30) (h2 : oe < 2 ^ 30) (h3 : vi < 2 ^ 30) (e : a_stackLevel t = nI l)
    (k1 : bi_nx l r ≤ D ∧ oi = 0 ∧ oe = 0 → post (f_cap, nI D, nI N, f_paragraph, f_lines, f_resolved, nI (t + 1), nI oi, nI oe, nI (vi + 1), f_seqLen, f_seqLevel, f_runDir, f_sos, f_eos, f_openCount, a_text, a_breakAfter, a_partner, upd a_level i (bi_sl (a_text i) f_paragraph (a_stackLevel t)), upd a_type i (bi_ty (a_text i) (a_stackOverride t)), a_prevKept, a_nextKept, a_implicit, a_pair, upd a_valid i 1, a_taken, upd a_stackLevel (t + 1) (nI (bi_nx l r)), upd a_stackOverride (t + 1) (-1), upd a_stackIsolate (t + 1) 1, a_seq, a_kind, a_mate, a_openAt, a_wasMark, a_lineFirst, a_lineSlot, a_lineLv, a_order, a_place))
    (k0 : ¬ (bi_nx l r ≤ D ∧ oi = 0 ∧ oe = 0) → post (f_cap, nI D, nI N, f_paragraph, f_lines, f_resolved, nI t, nI (oi + 1), nI oe, nI vi, f_seqLen, f_seqLevel, f_runDir, f_sos, f_eos, f_openCount, a_text, a_breakAfter, a_partner, upd a_level i (bi_sl (a_text i) f_paragraph (a_stackLevel t)), upd a_type i (bi_ty (a_text i) (a_stackOverride t)), a_prevKept, a_nextKept, a_implicit, a_pair, upd a_valid i 0, a_taken, a_stackLevel, a_stackOverride, a_stackIsolate, a_seq, a_kind, a_mate, a_openAt, a_wasMark, a_lineFirst, a_lineSlot, a_lineLv, a_order, a_place)) :
    wpX_openIsolate post (f_cap, nI D, nI N, f_paragraph, f_lines, f_resolved, nI t, nI oi, nI oe, nI vi, f_seqLen, f_seqLevel, f_runDir, f_sos, f_eos, f_openCount, a_text, a_breakAfter, a_partner, a_level, a_type, a_prevKept, a_nextKept, a_implicit, a_pair, a_valid, a_taken, a_stackLevel, a_stackOverride, a_stackIsolate, a_seq, a_kind, a_mate, a_openAt, a_wasMark, a_lineFirst, a_lineSlot, a_lineLv, a_order, a_place) (nI i) := by
  have hn := bi_nx_gt l r
  have hv := vp_in_nI (n := i) (N := 32) (by omega) (by omega)
  have h75 : wX_openIsolate_75 post (nI i) (bi_b r) f_cap (nI D) (nI N) f_paragraph f_lines f_resolved (nI t) (nI oi) (nI oe) (nI vi) f_seqLen f_seqLevel f_runDir f_sos f_eos f_openCount a_text a_breakAfter a_partner (upd a_level i (bi_sl (a_text i) f_paragraph (a_stackLevel t))) (upd a_type i (bi_ty (a_text i) (a_stackOverride t))) a_prevKept a_nextKept a_implicit a_pair a_valid a_taken a_stackLevel a_stackOverride a_stackIsolate a_seq a_kind a_mate a_openAt a_wasMark a_lineFirst a_lineSlot a_lineLv a_order a_place := by
    unfold wX_openIsolate_75
    refine bx_next r (by omega) hl e (bx_admits hD (by omega) (by omega) (by omega) (fun a => And.intro hv (nm_e (And.intro hv ?_))) (fun a => And.intro hv (nm_e (And.intro hv ?_))))
    · rw [nI_clamp (n := i) (by omega), pk_us, bi_n1]
      refine br_f (by decide) (bx_push 1 (Or.inr rfl) ht (And.intro hv ?_))
      rw [nI_clamp (n := i) (by omega), pk_us]
      exact br_f (by decide) (nm_r (nI_1 vi) (k1 a))
    · rw [nI_clamp (n := i) (by omega), pk_us, bi_n0]
      refine br_t rfl (And.intro hv ?_)
      rw [nI_clamp (n := i) (by omega), pk_us]
      exact br_t rfl (nm_r (nI_1 oi) (k0 a))
  have h27 : wX_openIsolate_27 post (nI i) (nI (bi_end a_text N i)) f_cap (nI D) (nI N) f_paragraph f_lines f_resolved (nI t) (nI oi) (nI oe) (nI vi) f_seqLen f_seqLevel f_runDir f_sos f_eos f_openCount a_text a_breakAfter a_partner (upd a_level i (bi_sl (a_text i) f_paragraph (a_stackLevel t))) (upd a_type i (bi_ty (a_text i) (a_stackOverride t))) a_prevKept a_nextKept a_implicit a_pair a_valid a_taken a_stackLevel a_stackOverride a_stackIsolate a_seq a_kind a_mate a_openAt a_wasMark a_lineFirst a_lineSlot a_lineLv a_order a_place := by
    unfold wX_openIsolate_27
    rw [nI_clamp (n := i) (by omega), nI_1]
    obtain ⟨o, ho, hr⟩ := hr
    refine And.intro hv (br_c (fun q => ?_) (fun q => And.intro hv ?_))
    · rw [if_pos q] at hr
      refine bx_auto hN (by omega) bi_end_le hp ho (br_c (fun w => ?_) (fun w => ?_))
      · have := hr.mpr w
        subst this; exact h75
      · have : r = false := by cases r; rfl; exact absurd (hr.mp rfl) w
        subst this; exact h75
    · rw [if_neg q] at hr
      refine br_c (fun w => ?_) (fun w => ?_)
      · have := hr.mpr (Or.inr (Or.inr w))
        subst this; exact h75
      · have : r = false := by
          cases r
          · rfl
          · rcases hr.mp rfl with z | z | z
            · rw [z] at hI; exact absurd hI (by decide)
            · rw [z] at hI; exact absurd hI (by decide)
            · exact absurd z w
        subst this; exact h75
  unfold wpX_openIsolate
  refine bx_stamp (by omega) (by omega) (And.intro hv ?_)
  rw [nI_clamp (n := i) (by omega), (hp i hi).1 hI]
  refine bi_o_le (bi_cl_lt hN) (fun e => ?_) (fun e he => And.intro hv ?_)
  · have : bi_end a_text N i = N := by unfold bi_end; rw [e]
    rw [this] at h27; exact h27
  · have : bi_end a_text N i = e := by unfold bi_end; rw [he]
    rw [this] at h27
    rw [he]; exact h27
theorem bx_ci_loop {post : SX → Prop} {x1 : Int32} {t : Nat} (ht : t < 16) (k : wX_closeIsolate_64 post x1 f_cap f_depth f_size f_paragraph f_lines f_resolved (nI (bi_pt a_stackIsolate t)) f_overflowIsolates f_overflowEmbeddings f_validIsolates f_seqLen f_seqLevel f_runDir f_sos f_eos f_openCount a_text a_breakAfter a_partner a_level a_type a_prevKept a_nextKept a_implicit a_pair a_valid a_taken a_stackLevel a_stackOverride a_stackIsolate a_seq a_kind a_mate a_openAt a_wasMark a_lineFirst a_lineSlot a_lineLv a_order a_place) : ∀ n d, d ≤ t → d < n → bi_pt a_stackIsolate d = bi_pt a_stackIsolate t → wX_closeIsolate_32 post x1 f_cap f_depth f_size f_paragraph f_lines f_resolved f_overflowIsolates f_overflowEmbeddings f_validIsolates f_seqLen f_seqLevel f_runDir f_sos f_eos f_openCount a_text a_breakAfter a_partner a_level a_type a_prevKept a_nextKept a_implicit a_pair a_valid a_taken a_stackLevel a_stackOverride a_stackIsolate a_seq a_kind a_mate a_openAt a_wasMark a_lineFirst a_lineSlot a_lineLv a_order a_place n (nI d) := by
  intro n
  induction n with
  | zero => intro d _ h; omega
  | succ n ih =>
    intro d h1 h2 h3
    cases d with
    | zero =>
      rw [← h3] at k
      exact br_t (by decide) k
    | succ d =>
      refine br_f (nI_nle (by omega) (by omega)) (And.intro (vp_in_nI (by omega) (by omega)) ?_)
      rw [nI_clamp (n := d + 1) (by omega)]
      simp only [bi_pt] at h3
      refine br_c (fun q => ?_) (fun q => ?_)
      · rw [if_pos q] at h3
        exact nm_r (nI_pred d) (ih d (by omega) (by omega) h3)
      · rw [if_neg q] at h3
        rw [← h3] at k; exact k
theorem bx_close {post : SX → Prop} {t oi vi i : Nat} (hi : i < 32) (ht : t < 16) (h1 : oi < 2 ^ 30) (h3 : vi < 2 ^ 30)
    (k1 : 0 < oi → post (f_cap, f_depth, f_size, f_paragraph, f_lines, f_resolved, nI t, nI (oi - 1), f_overflowEmbeddings, nI vi, f_seqLen, f_seqLevel, f_runDir, f_sos, f_eos, f_openCount, a_text, a_breakAfter, a_partner, upd a_level i (bi_sl (a_text i) f_paragraph (a_stackLevel t)), upd a_type i (bi_ty (a_text i) (a_stackOverride t)), a_prevKept, a_nextKept, a_implicit, a_pair, a_valid, a_taken, a_stackLevel, a_stackOverride, a_stackIsolate, a_seq, a_kind, a_mate, a_openAt, a_wasMark, a_lineFirst, a_lineSlot, a_lineLv, a_order, a_place))
    (k2 : oi = 0 → vi = 0 → post (f_cap, f_depth, f_size, f_paragraph, f_lines, f_resolved, nI t, nI oi, f_overflowEmbeddings, nI vi, f_seqLen, f_seqLevel, f_runDir, f_sos, f_eos, f_openCount, a_text, a_breakAfter, a_partner, upd a_level i (bi_sl (a_text i) f_paragraph (a_stackLevel t)), upd a_type i (bi_ty (a_text i) (a_stackOverride t)), a_prevKept, a_nextKept, a_implicit, a_pair, a_valid, a_taken, a_stackLevel, a_stackOverride, a_stackIsolate, a_seq, a_kind, a_mate, a_openAt, a_wasMark, a_lineFirst, a_lineSlot, a_lineLv, a_order, a_place))
    (k3 : oi = 0 → 0 < vi → post (f_cap, f_depth, f_size, f_paragraph, f_lines, f_resolved, nI (bi_pt a_stackIsolate t - 1), nI oi, 0, nI (vi - 1), f_seqLen, f_seqLevel, f_runDir, f_sos, f_eos, f_openCount, a_text, a_breakAfter, a_partner, upd a_level i (bi_sl (a_text i) f_paragraph (a_stackLevel (bi_pt a_stackIsolate t - 1))), upd a_type i (bi_ty (a_text i) (a_stackOverride (bi_pt a_stackIsolate t - 1))), a_prevKept, a_nextKept, a_implicit, a_pair, a_valid, a_taken, a_stackLevel, a_stackOverride, a_stackIsolate, a_seq, a_kind, a_mate, a_openAt, a_wasMark, a_lineFirst, a_lineSlot, a_lineLv, a_order, a_place)) :
    wpX_closeIsolate post (f_cap, f_depth, f_size, f_paragraph, f_lines, f_resolved, nI t, nI oi, f_overflowEmbeddings, nI vi, f_seqLen, f_seqLevel, f_runDir, f_sos, f_eos, f_openCount, a_text, a_breakAfter, a_partner, a_level, a_type, a_prevKept, a_nextKept, a_implicit, a_pair, a_valid, a_taken, a_stackLevel, a_stackOverride, a_stackIsolate, a_seq, a_kind, a_mate, a_openAt, a_wasMark, a_lineFirst, a_lineSlot, a_lineLv, a_order, a_place) (nI i) := by
  have hpt := bi_pt_le a_stackIsolate t
  unfold wpX_closeIsolate
  by_cases a : oi = 0
  · refine br_t ((bi_le0 (by omega)).mpr a) ?_
    by_cases b : vi = 0
    · refine br_t ((bi_le0 (by omega)).mpr b) ?_
      unfold wX_closeIsolate_91
      exact bx_stamp hi ht (k2 a b)
    · refine br_f (nI_nle (by omega) (by omega)) (Exists.intro (t + 1) (bx_ci_loop ht ?_ (t + 1) t (Nat.le_refl _) (by omega) rfl))
      have h81 : wX_closeIsolate_81 post (nI i) f_cap f_depth f_size f_paragraph f_lines f_resolved (nI (bi_pt a_stackIsolate t - 1)) (nI oi) 0 (nI vi) f_seqLen f_seqLevel f_runDir f_sos f_eos f_openCount a_text a_breakAfter a_partner a_level a_type a_prevKept a_nextKept a_implicit a_pair a_valid a_taken a_stackLevel a_stackOverride a_stackIsolate a_seq a_kind a_mate a_openAt a_wasMark a_lineFirst a_lineSlot a_lineLv a_order a_place := by
        unfold wX_closeIsolate_81
        refine nm_r (bi_p1 (by omega)) ?_
        unfold wX_closeIsolate_91
        exact bx_stamp hi (by omega) (k3 a (by omega))
      unfold wX_closeIsolate_64
      by_cases z : bi_pt a_stackIsolate t = 0
      · rw [z] at h81 ⊢
        exact br_t (by decide) h81
      · exact br_f (nI_nle (by omega) (by omega)) (nm_r (bi_p1 (by omega)) h81)
  · refine br_f (nI_nle (by omega) (by omega)) (nm_r (bi_p1 (by omega)) ?_)
    unfold wX_closeIsolate_91
    exact bx_stamp hi ht (k1 (by omega))
theorem bx_pdf {post : SX → Prop} {t oi oe : Nat} (ht : t < 16) (h1 : oi < 2 ^ 30) (h2 : oe < 2 ^ 30)
    (k1 : 0 < oi → post (f_cap, f_depth, f_size, f_paragraph, f_lines, f_resolved, nI t, nI oi, nI oe, f_validIsolates, f_seqLen, f_seqLevel, f_runDir, f_sos, f_eos, f_openCount, a_text, a_breakAfter, a_partner, a_level, a_type, a_prevKept, a_nextKept, a_implicit, a_pair, a_valid, a_taken, a_stackLevel, a_stackOverride, a_stackIsolate, a_seq, a_kind, a_mate, a_openAt, a_wasMark, a_lineFirst, a_lineSlot, a_lineLv, a_order, a_place))
    (k2 : oi = 0 → 0 < oe → post (f_cap, f_depth, f_size, f_paragraph, f_lines, f_resolved, nI t, nI oi, nI (oe - 1), f_validIsolates, f_seqLen, f_seqLevel, f_runDir, f_sos, f_eos, f_openCount, a_text, a_breakAfter, a_partner, a_level, a_type, a_prevKept, a_nextKept, a_implicit, a_pair, a_valid, a_taken, a_stackLevel, a_stackOverride, a_stackIsolate, a_seq, a_kind, a_mate, a_openAt, a_wasMark, a_lineFirst, a_lineSlot, a_lineLv, a_order, a_place))
    (k3 : oi = 0 → oe = 0 → (t = 0 ∨ ¬ a_stackIsolate t = 0) → post (f_cap, f_depth, f_size, f_paragraph, f_lines, f_resolved, nI t, nI oi, nI oe, f_validIsolates, f_seqLen, f_seqLevel, f_runDir, f_sos, f_eos, f_openCount, a_text, a_breakAfter, a_partner, a_level, a_type, a_prevKept, a_nextKept, a_implicit, a_pair, a_valid, a_taken, a_stackLevel, a_stackOverride, a_stackIsolate, a_seq, a_kind, a_mate, a_openAt, a_wasMark, a_lineFirst, a_lineSlot, a_lineLv, a_order, a_place))
    (k4 : oi = 0 → oe = 0 → 0 < t → a_stackIsolate t = 0 → post (f_cap, f_depth, f_size, f_paragraph, f_lines, f_resolved, nI (t - 1), nI oi, nI oe, f_validIsolates, f_seqLen, f_seqLevel, f_runDir, f_sos, f_eos, f_openCount, a_text, a_breakAfter, a_partner, a_level, a_type, a_prevKept, a_nextKept, a_implicit, a_pair, a_valid, a_taken, a_stackLevel, a_stackOverride, a_stackIsolate, a_seq, a_kind, a_mate, a_openAt, a_wasMark, a_lineFirst, a_lineSlot, a_lineLv, a_order, a_place)) :
    wpX_closeEmbedding post (f_cap, f_depth, f_size, f_paragraph, f_lines, f_resolved, nI t, nI oi, nI oe, f_validIsolates, f_seqLen, f_seqLevel, f_runDir, f_sos, f_eos, f_openCount, a_text, a_breakAfter, a_partner, a_level, a_type, a_prevKept, a_nextKept, a_implicit, a_pair, a_valid, a_taken, a_stackLevel, a_stackOverride, a_stackIsolate, a_seq, a_kind, a_mate, a_openAt, a_wasMark, a_lineFirst, a_lineSlot, a_lineLv, a_order, a_place) := by
  unfold wpX_closeEmbedding
  by_cases a : oi = 0
  · refine br_t ((bi_le0 (by omega)).mpr a) ?_
    by_cases b : oe = 0
    · refine br_t ((bi_le0 (by omega)).mpr b) ?_
      by_cases c : t = 0
      · exact br_t ((bi_le0 (by omega)).mpr c) (k3 a b (Or.inl c))
      · refine br_f (nI_nle (by omega) (by omega)) (And.intro (vp_in_nI ht (by omega)) ?_)
        rw [nI_clamp (n := t) (by omega)]
        exact br_c (fun q => nm_r (bi_p1 (by omega)) (k4 a b (by omega) q)) (fun q => k3 a b (Or.inr q))
    · exact br_f (nI_nle (by omega) (by omega)) (nm_r (bi_p1 (by omega)) (k2 a (by omega)))
  · exact br_f (nI_nle (by omega) (by omega)) (k1 (by omega))
end
end
section
/-! the reference's explicit levels: one step -/
def bi_zz (m : Bool) : Nat := if m = true then 0 else 1
section
variable {g_cap g_depth g_len g_para g_count g_e g_way g_sos g_eos g_done : Int32} {b_text b_cut b_pair b_res b_level b_over b_type b_first b_seq b_open b_stLevel b_stOver b_stIso : Nat → Int32}
theorem by_new87 {post : Int32 → Prop} {l : Nat} (r : Bool) (hl : l < 13) (k : post (nI (bi_nx l r))) : wY_newLevel_87 post (nI l) (bi_b r) g_cap g_depth g_len g_para g_count g_e g_way g_sos g_eos g_done b_text b_cut b_pair b_res b_level b_over b_type b_first b_seq b_open b_stLevel b_stOver b_stIso := by
  unfold wY_newLevel_87
  have e2 : nI l - nI l / 2 * 2 = nI (l % 2) := pk_rem (d := 2) (by omega) (by omega) (by omega)
  rw [e2]
  refine And.intro (by decide) (bi_bz r (fun h => ?_) (fun h => ?_))
  · subst h
    unfold wY_newLevel_99
    by_cases q : l % 2 = 1
    · refine br_t (by rw [q]; rfl) ?_
      have : bi_nx l false = l + 1 := by unfold bi_nx; simp; omega
      rw [nI_1, ← this]; exact k
    · have q0 : l % 2 = 0 := by omega
      refine br_f (by rw [q0]; decide) ?_
      have : bi_nx l false = l + 2 := by unfold bi_nx; simp; omega
      rw [show nI l + 2 = nI (l + 2) from nI_add l 2, ← this]; exact k
  · subst h
    unfold wY_newLevel_99
    by_cases q : l % 2 = 0
    · refine br_t (by rw [q]; rfl) ?_
      have : bi_nx l true = l + 1 := by unfold bi_nx; simp; omega
      rw [nI_1, ← this]; exact k
    · have q0 : l % 2 = 1 := by omega
      refine br_f (by rw [q0]; decide) ?_
      have : bi_nx l true = l + 2 := by unfold bi_nx; simp; omega
      rw [show nI l + 2 = nI (l + 2) from nI_add l 2, ← this]; exact k
theorem by_new {post : Int32 → Prop} {N i l : Nat} (r : Bool) (hr : bi_RT b_text N i r) (hN : N ≤ 32) (hi : i < N) (hl : l < 13) (k : post (nI (bi_nx l r))) : wpY_newLevel post (g_cap, g_depth, nI N, g_para, g_count, g_e, g_way, g_sos, g_eos, g_done, b_text, b_cut, b_pair, b_res, b_level, b_over, b_type, b_first, b_seq, b_open, b_stLevel, b_stOver, b_stIso) (nI i) (nI l) := by
  have hv := vp_in_nI (n := i) (N := 32) (by omega) (by omega)
  obtain ⟨o, ho, hr⟩ := hr
  have h38 : ∀ z : Bool, (¬ b_text i = 21 → (z = true ↔ (b_text i = 16 ∨ b_text i = 17 ∨ b_text i = 20))) → wY_newLevel_38 post (nI i) (nI l) (bi_b z) g_cap g_depth (nI N) g_para g_count g_e g_way g_sos g_eos g_done b_text b_cut b_pair b_res b_level b_over b_type b_first b_seq b_open b_stLevel b_stOver b_stIso := by
    intro z hz
    unfold wY_newLevel_38
    rw [nI_clamp (n := i) (by omega)]
    refine And.intro hv (br_c (fun q => by_closer hN hi ?_) (fun q => ?_))
    · rw [if_pos q] at hr
      have h68 : wY_newLevel_68 post (nI i) (nI l) (nI (bi_end b_text N i)) g_cap g_depth (nI N) g_para g_count g_e g_way g_sos g_eos g_done b_text b_cut b_pair b_res b_level b_over b_type b_first b_seq b_open b_stLevel b_stOver b_stIso := by
        unfold wY_newLevel_68
        rw [nI_1]
        refine by_auto hN bi_end_le (by omega) ho (br_c (fun w => ?_) (fun w => ?_))
        · have := hr.mpr w
          subst this; exact by_new87 true hl k
        · have : r = false := by cases r; rfl; exact absurd (hr.mp rfl) w
          subst this; exact by_new87 false hl k
      refine bi_o_le (bi_cl_lt hN) (fun e => ?_) (fun e he => ?_)
      · have : bi_end b_text N i = N := by unfold bi_end; rw [e]
        rw [this] at h68; exact h68
      · have : bi_end b_text N i = e := by unfold bi_end; rw [he]
        rw [this] at h68
        rw [he]; exact h68
    · rw [if_neg q] at hr
      have : z = r := by
        have := hz q
        cases z <;> cases r <;> simp_all
      subst this
      exact by_new87 z hl k
  unfold wpY_newLevel
  refine And.intro hv ?_
  rw [nI_clamp (n := i) (by omega)]
  refine br_c (fun q => h38 true (fun _ => ⟨fun _ => Or.inl q, fun _ => rfl⟩)) (fun q => And.intro hv (br_c (fun q2 => h38 true (fun _ => ⟨fun _ => Or.inr (Or.inl q2), fun _ => rfl⟩)) (fun q2 => And.intro hv (br_c (fun q3 => h38 true (fun _ => ⟨fun _ => Or.inr (Or.inr q3), fun _ => rfl⟩)) (fun q3 => h38 false (fun _ => ⟨fun z => (by cases z), fun z => absurd z (fun w => w.elim q (fun w => w.elim q2 q3))⟩))))))
theorem by_447 {post : SY → Prop} {J : Int32 → Int32 → Int32 → Int32 → Int32 →  (Nat → Int32) → (Nat → Int32) → (Nat → Int32) → (Nat → Int32) → (Nat → Int32) → (Nat → Int32) → (Nat → Int32) → (Nat → Int32) → (Nat → Int32) → (Nat → Int32) → (Nat → Int32) → (Nat → Int32) → (Nat → Int32) →  Prop} {x1 x3 x4 c : Int32} {oi i : Nat} (hi : i < 32)
    (ki : bi_I c → J x1 (nI (oi + 1)) x3 x4 (nI (i + 1)) b_text b_cut b_pair b_res b_level (upd b_over i 1) b_type b_first b_seq b_open b_stLevel b_stOver b_stIso) (kn : ¬ bi_I c → J x1 (nI oi) x3 x4 (nI (i + 1)) b_text b_cut b_pair b_res b_level b_over b_type b_first b_seq b_open b_stLevel b_stOver b_stIso) :
    wY_explicit_447 post J x1 (nI oi) x3 x4 (nI i) c g_cap g_depth g_len g_para g_count g_e g_way g_sos g_eos g_done b_text b_cut b_pair b_res b_level b_over b_type b_first b_seq b_open b_stLevel b_stOver b_stIso := by
  unfold wY_explicit_447
  rw [nI_clamp (n := i) (by omega)]
  exact by_ifI (fun h => nm_r (nI_1 i) (kn h)) (fun h => nm_r (nI_1 oi) (And.intro (vp_in_nI hi (by omega)) (nm_e (nm_r (nI_1 i) (ki h)))))
theorem by_432 {post : SY → Prop} {J : Int32 → Int32 → Int32 → Int32 → Int32 →  (Nat → Int32) → (Nat → Int32) → (Nat → Int32) → (Nat → Int32) → (Nat → Int32) → (Nat → Int32) → (Nat → Int32) → (Nat → Int32) → (Nat → Int32) → (Nat → Int32) → (Nat → Int32) → (Nat → Int32) → (Nat → Int32) →  Prop} {x1 x4 c : Int32} {oi oe i : Nat} (m : Bool) (hi : i < 32) (ho : oi < 2 ^ 30)
    (ke : m = true → oi = 0 → J x1 (nI oi) (nI (oe + 1)) x4 (nI (i + 1)) b_text b_cut b_pair b_res b_level b_over b_type b_first b_seq b_open b_stLevel b_stOver b_stIso)
    (ki : ¬ (m = true ∧ oi = 0) → bi_I c → J x1 (nI (oi + 1)) (nI oe) x4 (nI (i + 1)) b_text b_cut b_pair b_res b_level (upd b_over i 1) b_type b_first b_seq b_open b_stLevel b_stOver b_stIso) (kn : ¬ (m = true ∧ oi = 0) → ¬ bi_I c → J x1 (nI oi) (nI oe) x4 (nI (i + 1)) b_text b_cut b_pair b_res b_level b_over b_type b_first b_seq b_open b_stLevel b_stOver b_stIso) :
    wY_explicit_432 post J x1 (nI oi) (nI oe) x4 (nI i) c (bi_b m) g_cap g_depth g_len g_para g_count g_e g_way g_sos g_eos g_done b_text b_cut b_pair b_res b_level b_over b_type b_first b_seq b_open b_stLevel b_stOver b_stIso := by
  unfold wY_explicit_432
  refine bi_bz m (fun h => by_447 hi (ki (by rw [h]; intro z; cases z.1)) (kn (by rw [h]; intro z; cases z.1))) (fun h => ?_)
  by_cases z : oi = 0
  · exact br_t ((bi_eq0 (by omega)).mpr z) (nm_r (nI_1 oe) (nm_r (nI_1 i) (ke h z)))
  · exact br_f (fun q => z ((bi_eq0 (by omega)).mp q)) (by_447 hi (ki (fun q => z q.2)) (kn (fun q => z q.2)))
theorem by_362 {post : SY → Prop} {J : Int32 → Int32 → Int32 → Int32 → Int32 →  (Nat → Int32) → (Nat → Int32) → (Nat → Int32) → (Nat → Int32) → (Nat → Int32) → (Nat → Int32) → (Nat → Int32) → (Nat → Int32) → (Nat → Int32) → (Nat → Int32) → (Nat → Int32) → (Nat → Int32) → (Nat → Int32) →  Prop} {x2 x3 u c : Int32} {t vi i : Nat} (m : Bool) (ht : t + 1 < 40)
    (kp : J (nI (t + 1 + 1)) x2 x3 (nI (vi + bi_zz m)) (nI (i + 1)) b_text b_cut b_pair b_res b_level b_over b_type b_first b_seq b_open (upd b_stLevel (t + 1) u) (upd b_stOver (t + 1) (bi_ov c)) (upd b_stIso (t + 1) (nI (bi_zz m)))) :
    wY_explicit_362 post J (nI (t + 1)) x2 x3 (nI vi) (nI i) c u (bi_b m) g_cap g_depth g_len g_para g_count g_e g_way g_sos g_eos g_done b_text b_cut b_pair b_res b_level b_over b_type b_first b_seq b_open b_stLevel b_stOver b_stIso := by
  have hw := vp_in_nI (n := t + 1) (N := 40) ht (by omega)
  unfold wY_explicit_362
  rw [nI_clamp (n := t + 1) (by omega)]
  refine And.intro hw (nm_e ?_)
  have h398 : wY_explicit_398 post J (nI (t + 1)) x2 x3 (nI vi) (nI i) (bi_b m) (bi_ov c) (nI (t + 1)) g_cap g_depth g_len g_para g_count g_e g_way g_sos g_eos g_done b_text b_cut b_pair b_res b_level b_over b_type b_first b_seq b_open (upd b_stLevel (t + 1) u) b_stOver b_stIso := by
    unfold wY_explicit_398
    rw [nI_clamp (n := t + 1) (by omega)]
    refine And.intro hw (nm_e (bi_bz m (fun h => ?_) (fun h => ?_)))
    · subst h
      unfold wY_explicit_414
      rw [nI_clamp (n := t + 1) (by omega)]
      refine And.intro hw (nm_e (And.intro hw (nm_r (e' := nI (vi + 1)) (by rw [pk_us, nI_1]) (nm_r (nI_1 (t + 1)) (nm_r (nI_1 i) kp)))))
    · subst h
      unfold wY_explicit_414
      rw [nI_clamp (n := t + 1) (by omega)]
      refine And.intro hw (nm_e (And.intro hw (nm_r (e' := nI vi) (by rw [pk_us, Int32.add_zero]) (nm_r (nI_1 (t + 1)) (nm_r (nI_1 i) kp)))))
  unfold bi_ov at h398
  refine br_c (fun q => ?_) (fun q => br_c (fun q2 => ?_) (fun q2 => ?_))
  · rw [if_pos q] at h398; exact h398
  · rw [if_neg q, if_pos q2] at h398; exact h398
  · rw [if_neg q, if_neg q2] at h398; exact h398
theorem by_249 {post : SY → Prop} {J : Int32 → Int32 → Int32 → Int32 → Int32 →  (Nat → Int32) → (Nat → Int32) → (Nat → Int32) → (Nat → Int32) → (Nat → Int32) → (Nat → Int32) → (Nat → Int32) → (Nat → Int32) → (Nat → Int32) → (Nat → Int32) → (Nat → Int32) → (Nat → Int32) → (Nat → Int32) →  Prop} {u c : Int32} {t oi oe vi i : Nat} (f m : Bool) (hi : i < 32) (ht : t + 1 < 40) (ho : oi < 2 ^ 30)
    (kp : f = true → (m = true ∨ bi_I c) → J (nI (t + 1 + 1)) (nI oi) (nI oe) (nI (vi + bi_zz m)) (nI (i + 1)) b_text b_cut b_pair b_res (upd b_level i (bi_sl c g_para (b_stLevel t))) b_over (upd b_type i (bi_ty c (b_stOver t))) (upd b_first i (bi_ty c (b_stOver t))) b_seq b_open (upd b_stLevel (t + 1) u) (upd b_stOver (t + 1) (bi_ov c)) (upd b_stIso (t + 1) (nI (bi_zz m))))
    (ke : ¬ (f = true ∧ (m = true ∨ bi_I c)) → m = true → oi = 0 → J (nI (t + 1)) (nI oi) (nI (oe + 1)) (nI vi) (nI (i + 1)) b_text b_cut b_pair b_res (upd b_level i (bi_sl c g_para (b_stLevel t))) b_over (upd b_type i (bi_ty c (b_stOver t))) (upd b_first i (bi_ty c (b_stOver t))) b_seq b_open b_stLevel b_stOver b_stIso)
    (ki : ¬ (f = true ∧ (m = true ∨ bi_I c)) → ¬ (m = true ∧ oi = 0) → bi_I c → J (nI (t + 1)) (nI (oi + 1)) (nI oe) (nI vi) (nI (i + 1)) b_text b_cut b_pair b_res (upd b_level i (bi_sl c g_para (b_stLevel t))) (upd b_over i 1) (upd b_type i (bi_ty c (b_stOver t))) (upd b_first i (bi_ty c (b_stOver t))) b_seq b_open b_stLevel b_stOver b_stIso)
    (kn : ¬ (f = true ∧ (m = true ∨ bi_I c)) → ¬ (m = true ∧ oi = 0) → ¬ bi_I c → J (nI (t + 1)) (nI oi) (nI oe) (nI vi) (nI (i + 1)) b_text b_cut b_pair b_res (upd b_level i (bi_sl c g_para (b_stLevel t))) b_over (upd b_type i (bi_ty c (b_stOver t))) (upd b_first i (bi_ty c (b_stOver t))) b_seq b_open b_stLevel b_stOver b_stIso) :
    wY_explicit_249 post J (nI (t + 1)) (nI oi) (nI oe) (nI vi) (nI i) c u (bi_b f) (bi_b m) g_cap g_depth g_len g_para g_count g_e g_way g_sos g_eos g_done b_text b_cut b_pair b_res b_level b_over b_type b_first b_seq b_open b_stLevel b_stOver b_stIso := by
  have hv := vp_in_nI (n := i) (N := 32) hi (by omega)
  have hw := vp_in_nI (n := t) (N := 40) (by omega) (by omega)
  have h328 : wY_explicit_328 post J (nI (t + 1)) (nI oi) (nI oe) (nI vi) (nI i) c u (bi_b f) (bi_b m) (bi_ty c (b_stOver t)) (nI i) g_cap g_depth g_len g_para g_count g_e g_way g_sos g_eos g_done b_text b_cut b_pair b_res (upd b_level i (bi_sl c g_para (b_stLevel t))) b_over b_type b_first b_seq b_open b_stLevel b_stOver b_stIso := by
    unfold wY_explicit_328
    rw [nI_clamp (n := i) (by omega)]
    refine And.intro hv (nm_e (And.intro hv (And.intro hv ?_)))
    rw [pk_us]
    refine nm_e (bi_bz f (fun h => ?_) (fun h => bi_bz m (fun h2 => by_ifI (fun h3 => ?_) (fun h3 => ?_)) (fun h2 => ?_)))
    · have q : ¬ (f = true ∧ (m = true ∨ bi_I c)) := by rw [h]; intro z; cases z.1
      exact by_432 m hi ho (ke q) (ki q) (kn q)
    · have q : ¬ (f = true ∧ (m = true ∨ bi_I c)) := by rw [h2]; intro z; exact z.2.elim (fun w => by cases w) h3
      exact by_432 m hi ho (ke q) (ki q) (kn q)
    · exact by_362 m ht (kp h (Or.inr h3))
    · exact by_362 m ht (kp h (Or.inl h2))
  have h277 : wY_explicit_277 post J (nI (t + 1)) (nI oi) (nI oe) (nI vi) (nI i) c u (bi_b f) (bi_b m) (bi_sl c g_para (b_stLevel t)) (nI i) g_cap g_depth g_len g_para g_count g_e g_way g_sos g_eos g_done b_text b_cut b_pair b_res b_level b_over b_type b_first b_seq b_open b_stLevel b_stOver b_stIso := by
    unfold wY_explicit_277
    rw [nI_pred, nI_clamp (n := i) (by omega), nI_clamp (n := t) (by omega)]
    refine And.intro hv (nm_e ?_)
    unfold bi_ty at h328
    by_cases z : c = 10
    · rw [if_pos z] at h328
      refine br_t z ?_
      unfold wY_explicit_314
      refine br_t (by rw [z]; decide) ?_
      rw [z] at h328 ⊢
      exact h328
    · rw [if_neg z] at h328
      refine br_f z (And.intro hw (br_c (fun q => ?_) (fun q => And.intro hw ?_)))
      · rw [if_pos q] at h328
        unfold wY_explicit_314
        refine br_c (fun q2 => ?_) (fun q2 => ?_)
        · rw [if_pos q2] at h328; exact h328
        · rw [if_neg q2] at h328; exact h328
      · rw [if_neg q] at h328; exact h328
  unfold wY_explicit_249
  unfold bi_sl at h277
  rw [nI_pred, nI_clamp (n := t) (by omega)]
  refine br_c (fun z => ?_) (fun z => And.intro hw ?_)
  · rw [if_pos z] at h277; exact h277
  · rw [if_neg z] at h277; exact h277
theorem by_165 {post : SY → Prop} {J : Int32 → Int32 → Int32 → Int32 → Int32 →  (Nat → Int32) → (Nat → Int32) → (Nat → Int32) → (Nat → Int32) → (Nat → Int32) → (Nat → Int32) → (Nat → Int32) → (Nat → Int32) → (Nat → Int32) → (Nat → Int32) → (Nat → Int32) → (Nat → Int32) → (Nat → Int32) →  Prop} {x2 x3 x4 x5 c u x8 x9 : Int32} {t : Nat} (ht : t < 16)
    (k : wY_explicit_249 post J (nI (bi_pt b_stIso t - 1 + 1)) x2 x3 x4 x5 c u x8 x9 g_cap g_depth g_len g_para g_count g_e g_way g_sos g_eos g_done b_text b_cut b_pair b_res b_level b_over b_type b_first b_seq b_open b_stLevel b_stOver b_stIso) : ∀ n d, d ≤ t → d < n → bi_pt b_stIso d = bi_pt b_stIso t → wY_explicit_165 post J x2 x3 x4 x5 c u x8 x9 g_cap g_depth g_len g_para g_count g_e g_way g_sos g_eos g_done b_text b_cut b_pair b_res b_level b_over b_type b_first b_seq b_open b_stLevel b_stOver b_stIso n (nI (d + 1)) := by
  intro n
  induction n with
  | zero => intro d _ h; omega
  | succ n ih =>
    intro d h1 h2 h3
    cases d with
    | zero =>
      rw [← h3] at k
      exact br_t (by decide) (br_t (by decide) k)
    | succ d =>
      refine br_f (nI_ge (a := 1) (by omega) (by omega)) ?_
      rw [nI_pred, nI_clamp (n := d + 1) (by omega)]
      refine And.intro (vp_in_nI (by omega) (by omega)) ?_
      simp only [bi_pt] at h3
      refine br_c (fun q => ?_) (fun q => ?_)
      · rw [if_pos q] at h3
        exact nm_r (pk_m1 (d + 1)) (ih d (by omega) (by omega) h3)
      · rw [if_neg q] at h3
        rw [← h3] at k
        exact br_f (nI_ge (a := 1) (by omega) (by omega)) (nm_r (pk_m1 (d + 1)) k)
theorem by_113 {post : SY → Prop} {J : Int32 → Int32 → Int32 → Int32 → Int32 →  (Nat → Int32) → (Nat → Int32) → (Nat → Int32) → (Nat → Int32) → (Nat → Int32) → (Nat → Int32) → (Nat → Int32) → (Nat → Int32) → (Nat → Int32) → (Nat → Int32) → (Nat → Int32) → (Nat → Int32) → (Nat → Int32) →  Prop} {c u x8 x9 : Int32} {t oi oe vi i : Nat} (hi : i < 32) (ht : t < 16) (h1 : oi < 2 ^ 30) (h2 : oe < 2 ^ 30) (h3 : vi < 2 ^ 30)
    (k : ∀ t' oi' oe' vi' : Nat, ((c = 22 ∧ ((0 < oi ∧ t' = t ∧ oi' = oi - 1 ∧ oe' = oe ∧ vi' = vi) ∨ (oi = 0 ∧ vi = 0 ∧ t' = t ∧ oi' = oi ∧ oe' = oe ∧ vi' = vi) ∨ (oi = 0 ∧ 0 < vi ∧ t' = bi_pt b_stIso t - 1 ∧ oi' = oi ∧ oe' = 0 ∧ vi' = vi - 1))) ∨
      (c = 18 ∧ ((0 < oi ∧ t' = t ∧ oi' = oi ∧ oe' = oe ∧ vi' = vi) ∨ (oi = 0 ∧ 0 < oe ∧ t' = t ∧ oi' = oi ∧ oe' = oe - 1 ∧ vi' = vi) ∨ (oi = 0 ∧ oe = 0 ∧ (t = 0 ∨ ¬ b_stIso t = 0) ∧ t' = t ∧ oi' = oi ∧ oe' = oe ∧ vi' = vi) ∨ (oi = 0 ∧ oe = 0 ∧ 0 < t ∧ b_stIso t = 0 ∧ t' = t - 1 ∧ oi' = oi ∧ oe' = oe ∧ vi' = vi))) ∨
      (¬ c = 22 ∧ ¬ c = 18 ∧ t' = t ∧ oi' = oi ∧ oe' = oe ∧ vi' = vi)) →
      wY_explicit_249 post J (nI (t' + 1)) (nI oi') (nI oe') (nI vi') (nI i) c u x8 x9 g_cap g_depth g_len g_para g_count g_e g_way g_sos g_eos g_done b_text b_cut (upd b_pair i (-1)) b_res b_level (upd b_over i 0) b_type b_first b_seq b_open b_stLevel b_stOver b_stIso) :
    wY_explicit_113 post J (nI (t + 1)) (nI oi) (nI oe) (nI vi) (nI i) c u x8 x9 g_cap g_depth g_len g_para g_count g_e g_way g_sos g_eos g_done b_text b_cut b_pair b_res b_level b_over b_type b_first b_seq b_open b_stLevel b_stOver b_stIso := by
  have hv := vp_in_nI (n := i) (N := 32) hi (by omega)
  have hw := vp_in_nI (n := t) (N := 40) (by omega) (by omega)
  have d1 : ∀ {n : Nat}, 0 < n → nI n + (-1) = nI (n - 1) := by
    intro n hn
    obtain ⟨j, rfl⟩ : ∃ j, n = j + 1 := ⟨n - 1, by omega⟩
    exact pk_m1 j
  have h198 : ¬ c = 22 ∨ (oi = 0 ∧ vi = 0) → wY_explicit_198 post J (nI (t + 1)) (nI oi) (nI oe) (nI vi) (nI i) c u x8 x9 g_cap g_depth g_len g_para g_count g_e g_way g_sos g_eos g_done b_text b_cut (upd b_pair i (-1)) b_res b_level (upd b_over i 0) b_type b_first b_seq b_open b_stLevel b_stOver b_stIso := by
    intro hc
    unfold wY_explicit_198
    by_cases z : c = 18
    · have z22 : ¬ c = 22 := by rw [z]; decide
      refine br_t z ?_
      by_cases a : oi = 0
      · refine br_t ((bi_eq0 (by omega)).mpr a) ?_
        by_cases b : oe = 0
        · refine br_t ((bi_le0 (by omega)).mpr b) ?_
          unfold wY_explicit_219
          refine br_t z (br_t ((bi_eq0 (by omega)).mpr a) ?_)
          rw [nI_pred, nI_clamp (n := t) (by omega)]
          refine And.intro hw (br_c (fun q => ?_) (fun q => k t oi oe vi (Or.inr (Or.inl ⟨z, Or.inr (Or.inr (Or.inl ⟨a, b, Or.inr q, rfl, rfl, rfl, rfl⟩))⟩))))
          by_cases t0 : t = 0
          · exact br_t (nI_lt (b := 2) (by omega) (by omega)) (k t oi oe vi (Or.inr (Or.inl ⟨z, Or.inr (Or.inr (Or.inl ⟨a, b, Or.inl t0, rfl, rfl, rfl, rfl⟩))⟩)))
          · refine br_f (nI_nlt (b := 2) (by omega) (by omega)) (nm_r (e' := nI (t - 1 + 1)) (by rw [d1 (by omega)]; congr 1; omega) (k (t - 1) oi oe vi (Or.inr (Or.inl ⟨z, Or.inr (Or.inr (Or.inr ⟨a, b, by omega, q, rfl, rfl, rfl, rfl⟩))⟩))))
        · exact br_f (nI_nle (by omega) (by omega)) (nm_r (d1 (by omega)) (k t oi (oe - 1) vi (Or.inr (Or.inl ⟨z, Or.inr (Or.inl ⟨a, by omega, rfl, rfl, rfl, rfl⟩)⟩))))
      · have a' : ¬ nI oi = 0 := fun q => a ((bi_eq0 (by omega)).mp q)
        refine br_f a' ?_
        unfold wY_explicit_219
        exact br_t z (br_f a' (k t oi oe vi (Or.inr (Or.inl ⟨z, Or.inl ⟨by omega, rfl, rfl, rfl, rfl⟩⟩))))
    · refine br_f z ?_
      unfold wY_explicit_219
      refine br_f z ?_
      by_cases z22 : c = 22
      · obtain ⟨a, b⟩ := hc.resolve_left (fun q => q z22)
        exact k t oi oe vi (Or.inl ⟨z22, Or.inr (Or.inl ⟨a, b, rfl, rfl, rfl, rfl⟩)⟩)
      · exact k t oi oe vi (Or.inr (Or.inr ⟨z22, z, rfl, rfl, rfl, rfl⟩))
  unfold wY_explicit_113
  rw [nI_clamp (n := i) (by omega)]
  refine And.intro hv (nm_e (And.intro hv (nm_e ?_)))
  by_cases z : c = 22
  · refine br_t z ?_
    by_cases a : oi = 0
    · refine br_t ((bi_le0 (by omega)).mpr a) ?_
      unfold wY_explicit_148
      refine br_t z ?_
      by_cases b : vi = 0
      · exact br_t ((bi_le0 (by omega)).mpr b) (h198 (Or.inr ⟨a, b⟩))
      · refine br_f (nI_nle (by omega) (by omega)) (nm_r (d1 (by omega)) (Exists.intro (t + 1) (by_165 ht ?_ (t + 1) t (Nat.le_refl _) (by omega) rfl)))
        exact k _ oi 0 (vi - 1) (Or.inl ⟨z, Or.inr (Or.inr ⟨a, by omega, rfl, rfl, rfl, rfl⟩)⟩)
    · exact br_f (nI_nle (by omega) (by omega)) (nm_r (d1 (by omega)) (k t (oi - 1) oe vi (Or.inl ⟨z, Or.inl ⟨by omega, rfl, rfl, rfl, rfl⟩⟩)))
  · refine br_f z ?_
    unfold wY_explicit_148
    exact br_f z (h198 (Or.inl z))
theorem by_36 {post : SY → Prop} {n N D l t oi oe vi i : Nat} (r : Bool) (hr : bi_RT b_text N i r) (hN : N ≤ 32) (hi : i < N) (hD : D ≤ 12) (ht : t < 16) (hl : l < 13) (el : b_stLevel t = nI l) (h1 : oi < 2 ^ 30) (h2 : oe < 2 ^ 30)
    (k : ∀ f m : Bool, (f = true ↔ (bi_nx l r ≤ D ∧ oi = 0 ∧ oe = 0)) → (m = true ↔ (¬ b_text i < 14 ∧ ¬ 17 < b_text i)) → wY_explicit_113 post (wY_explicit_36 post g_cap (nI D) (nI N) g_para g_count g_e g_way g_sos g_eos g_done n) (nI (t + 1)) (nI oi) (nI oe) (nI vi) (nI i) (b_text i) (nI (bi_nx l r)) (bi_b f) (bi_b m) g_cap (nI D) (nI N) g_para g_count g_e g_way g_sos g_eos g_done b_text b_cut b_pair b_res b_level b_over b_type b_first b_seq b_open b_stLevel b_stOver b_stIso) :
    wY_explicit_36 post g_cap (nI D) (nI N) g_para g_count g_e g_way g_sos g_eos g_done (n + 1) (nI (t + 1)) (nI oi) (nI oe) (nI vi) (nI i) b_text b_cut b_pair b_res b_level b_over b_type b_first b_seq b_open b_stLevel b_stOver b_stIso := by
  have hn := bi_nx_gt l r
  have h92 : ∀ f : Bool, (f = true ↔ (bi_nx l r ≤ D ∧ oi = 0 ∧ oe = 0)) → wY_explicit_92 post (wY_explicit_36 post g_cap (nI D) (nI N) g_para g_count g_e g_way g_sos g_eos g_done n) (nI (t + 1)) (nI oi) (nI oe) (nI vi) (nI i) (b_text i) (nI (bi_nx l r)) (bi_b f) g_cap (nI D) (nI N) g_para g_count g_e g_way g_sos g_eos g_done b_text b_cut b_pair b_res b_level b_over b_type b_first b_seq b_open b_stLevel b_stOver b_stIso := by
    intro f hf
    unfold wY_explicit_92
    exact br_c (fun q => k f false hf ⟨fun z => (by cases z), fun z => absurd q z.1⟩) (fun q => br_c (fun q2 => k f false hf ⟨fun z => (by cases z), fun z => absurd q2 z.2⟩) (fun q2 => k f true hf ⟨fun _ => ⟨q, q2⟩, fun _ => rfl⟩))
  refine br_f (nI_ge hi (by omega)) (And.intro (vp_in_nI (by omega) (by omega)) ?_)
  rw [nI_clamp (n := i) (by omega), nI_pred, nI_clamp (n := t) (by omega), el]
  refine nm_e (And.intro (vp_in_nI (by omega) (by omega)) (by_new r hr hN hi hl ?_))
  have hno : ¬ (bi_nx l r ≤ D ∧ oi = 0 ∧ oe = 0) → wY_explicit_91 post (wY_explicit_36 post g_cap (nI D) (nI N) g_para g_count g_e g_way g_sos g_eos g_done n) (nI (t + 1)) (nI oi) (nI oe) (nI vi) (nI i) (b_text i) (nI (bi_nx l r)) g_cap (nI D) (nI N) g_para g_count g_e g_way g_sos g_eos g_done b_text b_cut b_pair b_res b_level b_over b_type b_first b_seq b_open b_stLevel b_stOver b_stIso := fun q => h92 false ⟨fun z => (by cases z), fun z => absurd z q⟩
  by_cases a : D < bi_nx l r
  · exact br_t (nI_lt a (by omega)) (hno (by omega))
  · refine br_f (nI_nlt (by omega) (by omega)) ?_
    by_cases b : oi = 0
    · refine br_t ((bi_eq0 (by omega)).mpr b) ?_
      by_cases d : oe = 0
      · exact br_t ((bi_eq0 (by omega)).mpr d) (h92 true ⟨fun _ => ⟨by omega, b, d⟩, fun _ => rfl⟩)
      · exact br_f (fun q => d ((bi_eq0 (by omega)).mp q)) (hno (by omega))
    · exact br_f (fun q => b ((bi_eq0 (by omega)).mp q)) (hno (by omega))
end
end
section
/-! explicit levels: isolates nest, their levels grow -/
def bi_A (SI : Nat → Int32) : Nat → Nat
  | 0 => 0
  | t + 1 => bi_A SI t + (if SI (t + 1) = 0 then 0 else 1)
theorem bi_A_le (SI : Nat → Int32) : ∀ t, bi_A SI t ≤ t
  | 0 => Nat.le_refl _
  | t + 1 => by
    have := bi_A_le SI t
    simp only [bi_A]
    split <;> omega
theorem bi_A_0 {SI : Nat → Int32} {t : Nat} (h : SI (t + 1) = 0) : bi_A SI (t + 1) = bi_A SI t := by simp only [bi_A]; rw [if_pos h, Nat.add_zero]
theorem bi_A_1 {SI : Nat → Int32} {t : Nat} (h : ¬ SI (t + 1) = 0) : bi_A SI (t + 1) = bi_A SI t + 1 := by simp only [bi_A]; rw [if_neg h]
theorem bi_A_mono (SI : Nat → Int32) {i j : Nat} (h : i ≤ j) : bi_A SI i ≤ bi_A SI j := by
  induction j with
  | zero => have : i = 0 := by omega
            subst this; exact Nat.le_refl _
  | succ j ih =>
    by_cases e : i = j + 1
    · subst e; exact Nat.le_refl _
    · have := ih (by omega)
      by_cases r : SI (j + 1) = 0
      · rw [bi_A_0 r]; omega
      · rw [bi_A_1 r]; omega
theorem bi_A_congr {SI SI' : Nat → Int32} : ∀ {t : Nat}, (∀ j, j ≤ t → SI' j = SI j) → bi_A SI' t = bi_A SI t
  | 0, _ => rfl
  | t + 1, h => by
    simp only [bi_A]
    rw [bi_A_congr (t := t) (fun j hj => h j (by omega)), h (t + 1) (Nat.le_refl _)]
theorem bi_A_q {SI : Nat → Int32} {q t : Nat} (h1 : 1 ≤ q) (h2 : q ≤ t) (h : ¬ SI q = 0) : bi_A SI (q - 1) + 1 ≤ bi_A SI t := by
  obtain ⟨p, rfl⟩ : ∃ p, q = p + 1 := ⟨q - 1, by omega⟩
  have := bi_A_mono SI h2
  rw [bi_A_1 h] at this
  exact this
theorem bi_A_pt (SI : Nat → Int32) : ∀ t, bi_A SI (bi_pt SI t) = bi_A SI t
  | 0 => rfl
  | t + 1 => by
    simp only [bi_pt]
    by_cases h : SI (t + 1) = 0
    · rw [if_pos h, bi_A_pt SI t, bi_A_0 h]
    · rw [if_neg h]
theorem bi_pt_nz (SI : Nat → Int32) : ∀ t, bi_pt SI t ≠ 0 → ¬ SI (bi_pt SI t) = 0
  | 0, h => absurd rfl h
  | t + 1, h => by
    simp only [bi_pt] at *
    by_cases z : SI (t + 1) = 0
    · rw [if_pos z] at *
      exact bi_pt_nz SI t h
    · rw [if_neg z]; exact z
theorem bi_pt_max {SI : Nat → Int32} {q : Nat} (hq : ¬ SI q = 0) : ∀ {t : Nat}, q ≤ t → q ≤ bi_pt SI t
  | 0, h => by simp only [bi_pt]; exact h
  | t + 1, h => by
    simp only [bi_pt]
    by_cases z : SI (t + 1) = 0
    · rw [if_pos z]
      have : q ≠ t + 1 := fun e => by subst e; exact hq z
      exact bi_pt_max hq (by omega)
    · rw [if_neg z]; exact h
theorem bi_sl_mono {sl : Nat → Nat} {t : Nat} (h : ∀ j, j < t → sl j < sl (j + 1)) {a b : Nat} (hab : a ≤ b) (hb : b ≤ t) : sl a ≤ sl b := by
  induction b with
  | zero => have : a = 0 := by omega
            subst this; exact Nat.le_refl _
  | succ b ih =>
    by_cases e : a = b + 1
    · subst e; exact Nat.le_refl _
    · have := ih (by omega) (by omega)
      have := h b (by omega)
      omega
def bi_NC (T : Nat → Int32) (N i : Nat) (lv : Nat → Nat) (j : Nat) : Prop := ∃ e, e < i ∧ bi_cl T N j = some e ∧ lv e = lv j ∧ ∀ k, j < k → k < e → ¬ bi_R (T k) → lv j < lv k
def bi_NO (T : Nat → Int32) (N i t oi : Nat) (sl lv : Nat → Nat) (SI : Nat → Int32) (j : Nat) : Prop := ∃ q, 1 ≤ q ∧ q ≤ t ∧ ¬ SI q = 0 ∧ lv j = sl (q - 1) ∧ bi_cl T N j = bi_C T N (oi + (bi_A SI t - bi_A SI (q - 1))) i ∧ ∀ k, j < k → k < i → ¬ bi_R (T k) → ¬ T k = 10 → sl q ≤ lv k
def bi_NE (T : Nat → Int32) (N i t oi : Nat) (sl lv : Nat → Nat) (SI VX : Nat → Int32) : Prop := ∀ j, j < i → VX j = 1 → bi_NC T N i lv j ∨ bi_NO T N i t oi sl lv SI j
theorem bi_NE_step {T : Nat → Int32} {N i t oi t' oi' : Nat} {sl lv sl' lv' : Nat → Nat} {SI VX SI' VX' : Nat → Int32} (hi : i < N) (hB : ∀ k, k + 1 < N → ¬ T k = 10) (h : bi_NE T N i t oi sl lv SI VX)
    (hlv : ∀ k, k < i → lv' k = lv k) (hV : ∀ k, k < i → VX' k = VX k)
    (hq : ∀ q, 1 ≤ q → q ≤ t → ¬ SI q = 0 → (q ≤ t' ∧ sl' q = sl q ∧ sl' (q - 1) = sl (q - 1) ∧ ¬ SI' q = 0 ∧ bi_C T N (oi + (bi_A SI t - bi_A SI (q - 1))) i = bi_C T N (oi' + (bi_A SI' t' - bi_A SI' (q - 1))) (i + 1) ∧ (¬ bi_R (T i) → ¬ T i = 10 → sl q ≤ lv' i)) ∨
      (bi_C T N (oi + (bi_A SI t - bi_A SI (q - 1))) i = some i ∧ lv' i = sl (q - 1) ∧ sl (q - 1) < sl q))
    (hn : VX' i = 1 → bi_NO T N (i + 1) t' oi' sl' lv' SI' i) : bi_NE T N (i + 1) t' oi' sl' lv' SI' VX' := by
  intro j hj hv
  by_cases e : j = i
  · subst e; exact Or.inr (hn hv)
  · have hj' : j < i := by omega
    rw [hV j hj'] at hv
    rcases h j hj' hv with ⟨e, e1, e2, e3, e4⟩ | ⟨q, q1, q2, q3, q4, q5, q6⟩
    · refine Or.inl ⟨e, by omega, e2, by rw [hlv e e1, hlv j hj']; exact e3, fun k k1 k2 k3 => ?_⟩
      rw [hlv j hj', hlv k (by omega)]
      exact e4 k k1 k2 k3
    · rcases hq q q1 q2 q3 with ⟨a1, a2, a3, a4, a5, a6⟩ | ⟨a1, a2, a3⟩
      · refine Or.inr ⟨q, q1, a1, a4, by rw [hlv j hj', a3]; exact q4, by rw [q5]; exact a5, fun k k1 k2 k3 k4 => ?_⟩
        rw [a2]
        by_cases ek : k = i
        · subst ek; exact a6 k3 k4
        · rw [hlv k (by omega)]
          exact q6 k k1 (by omega) k3 k4
      · refine Or.inl ⟨i, by omega, by rw [q5]; exact a1, by rw [hlv j hj', a2, q4], fun k k1 k2 k3 => ?_⟩
        rw [hlv j hj', hlv k k2]
        have := q6 k k1 k2 k3 (hB k (by omega))
        omega
/-- the least facts of a position's types -/
def bi_k0 (x : Int32) : Prop := ¬ x < 0 ∧ x ≤ 22 ∧ ¬ bi_R x
def bi_SK (D t : Nat) (sl : Nat → Nat) (SL SO SI : Nat → Int32) : Prop := (∀ j, j ≤ t → SL j = nI (sl j) ∧ j ≤ sl j ∧ sl j ≤ D ∧ (SO j = -1 ∨ SO j = 0 ∨ SO j = 1)) ∧ (∀ j, j < t → sl j < sl (j + 1))
def bi_PO (T : Nat → Int32) (D i : Nat) (lv : Nat → Nat) (LX TX LY TY FY : Nat → Int32) : Prop := ∀ k, k < i → ¬ bi_R (T k) → LX k = nI (lv k) ∧ LY k = nI (lv k) ∧ lv k ≤ D ∧ TX k = FY k ∧ TY k = FY k ∧ bi_k0 (FY k)
def bi_VO (T : Nat → Int32) (N i : Nat) (VX OY : Nat → Int32) : Prop := (∀ k, k < i → (OY k = 0 ∧ (bi_I (T k) → VX k = 1) ∧ (¬ bi_I (T k) → VX k = 0)) ∨ (OY k = 1 ∧ bi_I (T k) ∧ VX k = 0)) ∧ (∀ k, i ≤ k → k < N → VX k = 0)
def bi_EX (T : Nat → Int32) (N D i t oi oe vi : Nat) (sl lv : Nat → Nat) (SL SO SI LX TX VX LY TY FY OY PY : Nat → Int32) : Prop :=
  bi_SK D t sl SL SO SI ∧ (oi ≤ i ∧ oe ≤ i ∧ vi = bi_A SI t) ∧ bi_PO T D i lv LX TX LY TY FY ∧ bi_VO T N i VX OY ∧ (∀ k, k < i → PY k = -1) ∧ bi_NE T N i t oi sl lv SI VX
theorem bi_SK_t {D t : Nat} {sl : Nat → Nat} {SL SO SI : Nat → Int32} (h : bi_SK D t sl SL SO SI) : t ≤ D := by
  have := h.1 t (Nat.le_refl _)
  omega
theorem bi_SK_pop {D t t' : Nat} {sl : Nat → Nat} {SL SO SI : Nat → Int32} (h : bi_SK D t sl SL SO SI) (ht : t' ≤ t) : bi_SK D t' sl SL SO SI := ⟨fun j hj => h.1 j (by omega), fun j hj => h.2 j (by omega)⟩
theorem bi_SK_push {D t u : Nat} {sl : Nat → Nat} {SL SO SI : Nat → Int32} {o z : Int32} (h : bi_SK D t sl SL SO SI) (hu : sl t < u) (huD : u ≤ D) (ho : o = -1 ∨ o = 0 ∨ o = 1) : bi_SK D (t + 1) (fun j => if j = t + 1 then u else sl j) (upd SL (t + 1) (nI u)) (upd SO (t + 1) o) (upd SI (t + 1) z) := by
  refine ⟨fun j hj => ?_, fun j hj => ?_⟩
  · by_cases e : j = t + 1
    · subst e
      have := h.1 t (Nat.le_refl _)
      dsimp only
      rw [pk_us, pk_us, if_pos rfl]
      exact ⟨rfl, by omega, huD, ho⟩
    · dsimp only
      rw [pk_un e, pk_un e, if_neg e]
      exact h.1 j (by omega)
  · dsimp only
    by_cases e : j = t
    · subst e
      rw [if_neg (by omega), if_pos rfl]; exact hu
    · rw [if_neg (by omega), if_neg (by omega)]
      exact h.2 j (by omega)
theorem bi_ty_k0 {c so : Int32} (h0 : ¬ c < 0) (hr : ¬ bi_R c) (ho : so = -1 ∨ so = 0 ∨ so = 1) : bi_k0 (bi_ty c so) := by
  unfold bi_ty
  by_cases a : c = 10
  · rw [if_pos a]; exact ⟨by decide, by decide, by decide⟩
  · rw [if_neg a]
    by_cases b : so = -1
    · rw [if_pos b]
      by_cases d : c ≤ 22
      · rw [if_pos d]; exact ⟨h0, d, hr⟩
      · rw [if_neg d]; exact ⟨by decide, by decide, by decide⟩
    · rw [if_neg b]
      rcases ho.resolve_left b with q | q <;> rw [q] <;> exact ⟨by decide, by decide, by decide⟩
/-- a position that is stamped on both sides -/
theorem bi_PO_st {T : Nat → Int32} {D i u : Nat} {lv : Nat → Nat} {LX TX LY TY FY : Nat → Int32} {x y : Int32} (h : bi_PO T D i lv LX TX LY TY FY) (hx : x = nI u) (hu : u ≤ D) (hy : ¬ bi_R (T i) → bi_k0 y) : bi_PO T D (i + 1) (fun k => if k = i then u else lv k) (upd LX i x) (upd TX i y) (upd LY i x) (upd TY i y) (upd FY i y) := by
  intro k hk hr
  dsimp only
  by_cases e : k = i
  · subst e
    rw [pk_us, pk_us, pk_us, pk_us, pk_us, if_pos rfl]
    exact ⟨hx, hx, hu, rfl, rfl, hy hr⟩
  · rw [pk_un e, pk_un e, pk_un e, pk_un e, pk_un e, if_neg e]
    exact h k (by omega) hr
/-- a position that only the reference stamps -/
theorem bi_PO_re {T : Nat → Int32} {D i : Nat} {lv : Nat → Nat} {LX TX LY TY FY : Nat → Int32} {x y : Int32} (h : bi_PO T D i lv LX TX LY TY FY) (hr : bi_R (T i)) : bi_PO T D (i + 1) lv LX TX (upd LY i x) (upd TY i y) (upd FY i y) := by
  intro k hk hk2
  have e : k ≠ i := fun z => by subst z; exact hk2 hr
  rw [pk_un e, pk_un e, pk_un e]
  exact h k (by omega) hk2
theorem bi_VO_no {T : Nat → Int32} {N i : Nat} {VX OY : Nat → Int32} (h : bi_VO T N i VX OY) (hi : i < N) (hI : ¬ bi_I (T i)) : bi_VO T N (i + 1) VX (upd OY i 0) := by
  refine ⟨fun k hk => ?_, fun k h1 h2 => h.2 k (by omega) h2⟩
  by_cases e : k = i
  · subst e
    rw [pk_us]
    exact Or.inl ⟨rfl, fun z => absurd z hI, fun _ => h.2 k (Nat.le_refl _) hi⟩
  · rw [pk_un e]; exact h.1 k (by omega)
theorem bi_VO_ok {T : Nat → Int32} {N i : Nat} {VX OY : Nat → Int32} (h : bi_VO T N i VX OY) (hI : bi_I (T i)) : bi_VO T N (i + 1) (upd VX i 1) (upd OY i 0) := by
  refine ⟨fun k hk => ?_, fun k h1 h2 => by rw [pk_un (by omega)]; exact h.2 k (by omega) h2⟩
  by_cases e : k = i
  · subst e
    rw [pk_us, pk_us]
    exact Or.inl ⟨rfl, fun _ => rfl, fun z => absurd hI z⟩
  · rw [pk_un e, pk_un e]; exact h.1 k (by omega)
theorem bi_VO_ov {T : Nat → Int32} {N i : Nat} {VX OY : Nat → Int32} (h : bi_VO T N i VX OY) (hI : bi_I (T i)) : bi_VO T N (i + 1) (upd VX i 0) (upd (upd OY i 0) i 1) := by
  refine ⟨fun k hk => ?_, fun k h1 h2 => by rw [pk_un (by omega)]; exact h.2 k (by omega) h2⟩
  by_cases e : k = i
  · subst e
    rw [pk_us, pk_us]
    exact Or.inr ⟨rfl, hI, rfl⟩
  · rw [pk_un e, pk_un e, pk_un e]; exact h.1 k (by omega)
theorem bi_PY_s {i : Nat} {PY : Nat → Int32} (h : ∀ k, k < i → PY k = -1) : ∀ k, k < i + 1 → upd PY i (-1) k = -1 := by
  intro k hk
  by_cases e : k = i
  · rw [e, pk_us]
  · rw [pk_un e]; exact h k (by omega)
theorem bi_if_lt {u i k : Nat} {lv : Nat → Nat} (h : k < i) : (fun k => if k = i then u else lv k) k = lv k := if_neg (by omega)
theorem bi_if_eq {u i : Nat} {lv : Nat → Nat} : (fun k => if k = i then u else lv k) i = u := if_pos rfl
/-! the kinds of steps -/
section
variable {T : Nat → Int32} {N D i t oi oe vi : Nat} {sl lv : Nat → Nat} {SL SO SI LX TX VX LY TY FY OY PY : Nat → Int32}
theorem bi_NE_other (hi : i < N) (hB : ∀ k, k + 1 < N → ¬ T k = 10) (hs : ∀ j, j < t → sl j < sl (j + 1)) (h : bi_NE T N i t oi sl lv SI VX) (hI : ¬ bi_I (T i)) (hP : ¬ T i = 22) (hV0 : VX i = 0) {lv' : Nat → Nat} (hlv : ∀ k, k < i → lv' k = lv k) (hl : ¬ bi_R (T i) → ¬ T i = 10 → lv' i = sl t) : bi_NE T N (i + 1) t oi sl lv' SI VX :=
  bi_NE_step hi hB h hlv (fun _ _ => rfl) (fun q q1 q2 q3 => Or.inl ⟨q2, rfl, rfl, q3, bi_C_O hi hI hP, fun a b => by rw [hl a b]; exact bi_sl_mono hs q2 (Nat.le_refl _)⟩) (fun z => by rw [hV0] at z; exact absurd z (by decide))
theorem bi_NE_pdf (hi : i < N) (hB : ∀ k, k + 1 < N → ¬ T k = 10) (h : bi_NE T N i t oi sl lv SI VX) (hc : T i = 18) (hV0 : VX i = 0) (ht : 0 < t) (h0 : SI t = 0) : bi_NE T N (i + 1) (t - 1) oi sl lv SI VX := by
  have hA : bi_A SI t = bi_A SI (t - 1) := by
    obtain ⟨s, rfl⟩ : ∃ s, t = s + 1 := ⟨t - 1, by omega⟩
    exact bi_A_0 h0
  refine bi_NE_step hi hB h (fun _ _ => rfl) (fun _ _ => rfl) (fun q q1 q2 q3 => Or.inl ⟨?_, rfl, rfl, q3, ?_, fun a => absurd (by rw [hc]; decide) a⟩) (fun z => by rw [hV0] at z; exact absurd z (by decide))
  · have : q ≠ t := fun e => by subst e; exact q3 h0
    omega
  · rw [← hA]
    exact bi_C_O hi (by rw [hc]; decide) (by rw [hc]; decide)
theorem bi_NE_emb {u : Nat} (hi : i < N) (hB : ∀ k, k + 1 < N → ¬ T k = 10) (h : bi_NE T N i t oi sl lv SI VX) (hI : ¬ bi_I (T i)) (hP : ¬ T i = 22) (hR : bi_R (T i)) (hV0 : VX i = 0) : bi_NE T N (i + 1) (t + 1) oi (fun j => if j = t + 1 then u else sl j) lv (upd SI (t + 1) 0) VX := by
  have hA : bi_A (upd SI (t + 1) 0) (t + 1) = bi_A SI t := by
    rw [bi_A_0 pk_us]
    exact bi_A_congr (fun j hj => pk_un (by omega))
  refine bi_NE_step hi hB h (fun _ _ => rfl) (fun _ _ => rfl) (fun q q1 q2 q3 => Or.inl ⟨by omega, if_neg (by omega), if_neg (by omega), by rw [pk_un (by omega)]; exact q3, ?_, fun a => absurd hR a⟩) (fun z => by rw [hV0] at z; exact absurd z (by decide))
  rw [hA, bi_A_congr (SI := SI) (fun j hj => pk_un (by omega))]
  exact bi_C_O hi hI hP
theorem bi_NE_iso {u : Nat} (hi : i < N) (hB : ∀ k, k + 1 < N → ¬ T k = 10) (hs : ∀ j, j < t → sl j < sl (j + 1)) (h : bi_NE T N i t 0 sl lv SI VX) (hI : bi_I (T i)) {lv' : Nat → Nat} (hlv : ∀ k, k < i → lv' k = lv k) (hl : lv' i = sl t) : bi_NE T N (i + 1) (t + 1) 0 (fun j => if j = t + 1 then u else sl j) lv' (upd SI (t + 1) 1) (upd VX i 1) := by
  have hA : bi_A (upd SI (t + 1) 1) (t + 1) = bi_A SI t + 1 := by
    rw [bi_A_1 (by rw [pk_us]; decide)]
    rw [bi_A_congr (SI := SI) (fun j hj => pk_un (by omega))]
  refine bi_NE_step hi hB h hlv (fun k hk => pk_un (by omega)) (fun q q1 q2 q3 => Or.inl ⟨by omega, if_neg (by omega), if_neg (by omega), by rw [pk_un (by omega)]; exact q3, ?_, fun _ _ => by rw [hl]; exact bi_sl_mono hs q2 (Nat.le_refl _)⟩) (fun _ => ⟨t + 1, by omega, Nat.le_refl _, by rw [pk_us]; decide, ?_, ?_, fun k k1 k2 => by omega⟩)
  · rw [hA, bi_A_congr (SI := SI) (t := q - 1) (fun j hj => pk_un (by omega)), bi_C_I hi hI]
    have := bi_A_q q1 q2 q3
    congr 1
    omega
  · rw [hl]
    exact (if_neg (by omega)).symm
  · rw [hA, show t + 1 - 1 = t by omega, bi_A_congr (SI := SI) (t := t) (fun j hj => pk_un (by omega)), show 0 + (bi_A SI t + 1 - bi_A SI t) = 1 by omega]
    rfl
theorem bi_NE_iov (hi : i < N) (hB : ∀ k, k + 1 < N → ¬ T k = 10) (hs : ∀ j, j < t → sl j < sl (j + 1)) (h : bi_NE T N i t oi sl lv SI VX) (hI : bi_I (T i)) {lv' : Nat → Nat} (hlv : ∀ k, k < i → lv' k = lv k) (hl : lv' i = sl t) : bi_NE T N (i + 1) t (oi + 1) sl lv' SI (upd VX i 0) := by
  refine bi_NE_step hi hB h hlv (fun k hk => pk_un (by omega)) (fun q q1 q2 q3 => Or.inl ⟨q2, rfl, rfl, q3, ?_, fun _ _ => by rw [hl]; exact bi_sl_mono hs q2 (Nat.le_refl _)⟩) (fun z => by rw [pk_us] at z; exact absurd z (by decide))
  rw [bi_C_I hi hI]
  congr 1
  omega
theorem bi_NE_pdo (hi : i < N) (hB : ∀ k, k + 1 < N → ¬ T k = 10) (hs : ∀ j, j < t → sl j < sl (j + 1)) (h : bi_NE T N i t oi sl lv SI VX) (hP : T i = 22) (ho : 0 < oi) (hV0 : VX i = 0) {lv' : Nat → Nat} (hlv : ∀ k, k < i → lv' k = lv k) (hl : lv' i = sl t) : bi_NE T N (i + 1) t (oi - 1) sl lv' SI VX := by
  refine bi_NE_step hi hB h hlv (fun k hk => rfl) (fun q q1 q2 q3 => Or.inl ⟨q2, rfl, rfl, q3, ?_, fun _ _ => by rw [hl]; exact bi_sl_mono hs q2 (Nat.le_refl _)⟩) (fun z => by rw [hV0] at z; exact absurd z (by decide))
  have := bi_A_q q1 q2 q3
  rw [bi_C_P hi hP (by omega)]
  congr 1
  omega
theorem bi_NE_pd0 (hi : i < N) (hB : ∀ k, k + 1 < N → ¬ T k = 10) (h : bi_NE T N i t oi sl lv SI VX) (hA : bi_A SI t = 0) (hV0 : VX i = 0) {lv' : Nat → Nat} (hlv : ∀ k, k < i → lv' k = lv k) : bi_NE T N (i + 1) t oi sl lv' SI VX :=
  bi_NE_step hi hB h hlv (fun k hk => rfl) (fun q q1 q2 q3 => by have := bi_A_q q1 q2 q3; omega) (fun z => by rw [hV0] at z; exact absurd z (by decide))
theorem bi_NE_pdi (hi : i < N) (hB : ∀ k, k + 1 < N → ¬ T k = 10) (hs : ∀ j, j < t → sl j < sl (j + 1)) (h : bi_NE T N i t 0 sl lv SI VX) (hP : T i = 22) (hA : 0 < bi_A SI t) (hV0 : VX i = 0) {lv' : Nat → Nat} (hlv : ∀ k, k < i → lv' k = lv k) (hl : lv' i = sl (bi_pt SI t - 1)) : bi_NE T N (i + 1) (bi_pt SI t - 1) 0 sl lv' SI VX ∧ bi_A SI (bi_pt SI t - 1) = bi_A SI t - 1 := by
  have h1 := bi_A_pt SI t
  have h2 : bi_pt SI t ≠ 0 := fun e => by rw [e] at h1; simp only [bi_A] at h1; omega
  have h3 := bi_pt_nz SI t h2
  have h4 := bi_pt_le SI t
  have h5 : bi_A SI (bi_pt SI t) = bi_A SI (bi_pt SI t - 1) + 1 := by
    obtain ⟨s, e⟩ : ∃ s, bi_pt SI t = s + 1 := ⟨bi_pt SI t - 1, by omega⟩
    rw [e] at h3 ⊢
    rw [bi_A_1 h3]; rfl
  refine ⟨bi_NE_step hi hB h hlv (fun k hk => rfl) (fun q q1 q2 q3 => ?_) (fun z => by rw [hV0] at z; exact absurd z (by decide)), by omega⟩
  have hm := bi_pt_max q3 q2
  by_cases e : q = bi_pt SI t
  · refine Or.inr ⟨?_, by rw [hl, e], ?_⟩
    · rw [e, show 0 + (bi_A SI t - bi_A SI (bi_pt SI t - 1)) = 1 by omega]
      exact bi_C_P1 hi hP
    · have := hs (q - 1) (by omega)
      rw [show q - 1 + 1 = q by omega] at this
      exact this
  · refine Or.inl ⟨by omega, rfl, rfl, q3, ?_, fun _ _ => by rw [hl]; exact bi_sl_mono hs (by omega) (by omega)⟩
    have := bi_A_q (SI := SI) (t := bi_pt SI t - 1) q1 (by omega) q3
    rw [bi_C_P hi hP (by omega)]
    congr 1
    omega
end
end
section
/-! explicit levels: both sides in lockstep -/
section
variable {f_cap f_depth f_size f_paragraph f_lines f_resolved f_top f_overflowIsolates f_overflowEmbeddings f_validIsolates f_seqLen f_seqLevel f_runDir f_sos f_eos f_openCount : Int32} {a_text a_breakAfter a_partner a_level a_type a_prevKept a_nextKept a_implicit a_pair a_valid a_taken a_stackLevel a_stackOverride a_stackIsolate a_seq a_kind a_mate a_openAt a_wasMark a_lineFirst a_lineSlot a_lineLv a_order a_place : Nat → Int32}
theorem bx_es_emb {post : SX → Prop} {i : Nat} (hi : i < 32) (h1 : ¬ a_text i < 14) (h2 : ¬ 17 < a_text i) (k : wpX_openEmbedding post (f_cap, f_depth, f_size, f_paragraph, f_lines, f_resolved, f_top, f_overflowIsolates, f_overflowEmbeddings, f_validIsolates, f_seqLen, f_seqLevel, f_runDir, f_sos, f_eos, f_openCount, a_text, a_breakAfter, a_partner, a_level, a_type, a_prevKept, a_nextKept, a_implicit, a_pair, a_valid, a_taken, a_stackLevel, a_stackOverride, a_stackIsolate, a_seq, a_kind, a_mate, a_openAt, a_wasMark, a_lineFirst, a_lineSlot, a_lineLv, a_order, a_place) (a_text i)) : wpX_explicitStep post (f_cap, f_depth, f_size, f_paragraph, f_lines, f_resolved, f_top, f_overflowIsolates, f_overflowEmbeddings, f_validIsolates, f_seqLen, f_seqLevel, f_runDir, f_sos, f_eos, f_openCount, a_text, a_breakAfter, a_partner, a_level, a_type, a_prevKept, a_nextKept, a_implicit, a_pair, a_valid, a_taken, a_stackLevel, a_stackOverride, a_stackIsolate, a_seq, a_kind, a_mate, a_openAt, a_wasMark, a_lineFirst, a_lineSlot, a_lineLv, a_order, a_place) (nI i) := by
  unfold wpX_explicitStep
  refine And.intro (vp_in_nI hi (by omega)) ?_
  rw [nI_clamp (n := i) (by omega)]
  exact nm_e (br_f h1 (br_f h2 k))
theorem bx_es27 {post : SX → Prop} {i : Nat} (hi : i < 32) (h1 : ¬ (¬ a_text i < 14 ∧ ¬ 17 < a_text i)) (k : wX_explicitStep_27 post (nI i) (a_text i) f_cap f_depth f_size f_paragraph f_lines f_resolved f_top f_overflowIsolates f_overflowEmbeddings f_validIsolates f_seqLen f_seqLevel f_runDir f_sos f_eos f_openCount a_text a_breakAfter a_partner a_level a_type a_prevKept a_nextKept a_implicit a_pair a_valid a_taken a_stackLevel a_stackOverride a_stackIsolate a_seq a_kind a_mate a_openAt a_wasMark a_lineFirst a_lineSlot a_lineLv a_order a_place) : wpX_explicitStep post (f_cap, f_depth, f_size, f_paragraph, f_lines, f_resolved, f_top, f_overflowIsolates, f_overflowEmbeddings, f_validIsolates, f_seqLen, f_seqLevel, f_runDir, f_sos, f_eos, f_openCount, a_text, a_breakAfter, a_partner, a_level, a_type, a_prevKept, a_nextKept, a_implicit, a_pair, a_valid, a_taken, a_stackLevel, a_stackOverride, a_stackIsolate, a_seq, a_kind, a_mate, a_openAt, a_wasMark, a_lineFirst, a_lineSlot, a_lineLv, a_order, a_place) (nI i) := by
  unfold wpX_explicitStep
  refine And.intro (vp_in_nI hi (by omega)) ?_
  rw [nI_clamp (n := i) (by omega)]
  exact nm_e (br_c (fun _ => k) (fun a => br_c (fun _ => k) (fun b => absurd ⟨a, b⟩ h1)))
theorem bx_es_iso {post : SX → Prop} {i : Nat} (hi : i < 32) (hI : bi_I (a_text i)) (k : wpX_openIsolate post (f_cap, f_depth, f_size, f_paragraph, f_lines, f_resolved, f_top, f_overflowIsolates, f_overflowEmbeddings, f_validIsolates, f_seqLen, f_seqLevel, f_runDir, f_sos, f_eos, f_openCount, a_text, a_breakAfter, a_partner, a_level, a_type, a_prevKept, a_nextKept, a_implicit, a_pair, a_valid, a_taken, a_stackLevel, a_stackOverride, a_stackIsolate, a_seq, a_kind, a_mate, a_openAt, a_wasMark, a_lineFirst, a_lineSlot, a_lineLv, a_order, a_place) (nI i)) : wpX_explicitStep post (f_cap, f_depth, f_size, f_paragraph, f_lines, f_resolved, f_top, f_overflowIsolates, f_overflowEmbeddings, f_validIsolates, f_seqLen, f_seqLevel, f_runDir, f_sos, f_eos, f_openCount, a_text, a_breakAfter, a_partner, a_level, a_type, a_prevKept, a_nextKept, a_implicit, a_pair, a_valid, a_taken, a_stackLevel, a_stackOverride, a_stackIsolate, a_seq, a_kind, a_mate, a_openAt, a_wasMark, a_lineFirst, a_lineSlot, a_lineLv, a_order, a_place) (nI i) := by
  refine bx_es27 hi (fun z => ?_) (bx_ifI (fun z => absurd hI z) (fun _ => k))
  have h1 := hI.1
  have h2 := z.2
  rw [Int32.lt_iff_toInt_lt] at h1 h2
  rw [show (19 : Int32).toInt = 19 by decide] at h1
  rw [show (17 : Int32).toInt = 17 by decide] at h2
  omega
theorem bx_es_pdi {post : SX → Prop} {i : Nat} (hi : i < 32) (hc : a_text i = 22) (k : wpX_closeIsolate post (f_cap, f_depth, f_size, f_paragraph, f_lines, f_resolved, f_top, f_overflowIsolates, f_overflowEmbeddings, f_validIsolates, f_seqLen, f_seqLevel, f_runDir, f_sos, f_eos, f_openCount, a_text, a_breakAfter, a_partner, a_level, a_type, a_prevKept, a_nextKept, a_implicit, a_pair, a_valid, a_taken, a_stackLevel, a_stackOverride, a_stackIsolate, a_seq, a_kind, a_mate, a_openAt, a_wasMark, a_lineFirst, a_lineSlot, a_lineLv, a_order, a_place) (nI i)) : wpX_explicitStep post (f_cap, f_depth, f_size, f_paragraph, f_lines, f_resolved, f_top, f_overflowIsolates, f_overflowEmbeddings, f_validIsolates, f_seqLen, f_seqLevel, f_runDir, f_sos, f_eos, f_openCount, a_text, a_breakAfter, a_partner, a_level, a_type, a_prevKept, a_nextKept, a_implicit, a_pair, a_valid, a_taken, a_stackLevel, a_stackOverride, a_stackIsolate, a_seq, a_kind, a_mate, a_openAt, a_wasMark, a_lineFirst, a_lineSlot, a_lineLv, a_order, a_place) (nI i) :=
  bx_es27 hi (by rw [hc]; decide) (bx_ifI (fun z => br_t hc k) (fun z => absurd z (by rw [hc]; decide)))
theorem bx_es_pdf {post : SX → Prop} {i : Nat} (hi : i < 32) (hc : a_text i = 18) (k : wpX_closeEmbedding post (f_cap, f_depth, f_size, f_paragraph, f_lines, f_resolved, f_top, f_overflowIsolates, f_overflowEmbeddings, f_validIsolates, f_seqLen, f_seqLevel, f_runDir, f_sos, f_eos, f_openCount, a_text, a_breakAfter, a_partner, a_level, a_type, a_prevKept, a_nextKept, a_implicit, a_pair, a_valid, a_taken, a_stackLevel, a_stackOverride, a_stackIsolate, a_seq, a_kind, a_mate, a_openAt, a_wasMark, a_lineFirst, a_lineSlot, a_lineLv, a_order, a_place)) : wpX_explicitStep post (f_cap, f_depth, f_size, f_paragraph, f_lines, f_resolved, f_top, f_overflowIsolates, f_overflowEmbeddings, f_validIsolates, f_seqLen, f_seqLevel, f_runDir, f_sos, f_eos, f_openCount, a_text, a_breakAfter, a_partner, a_level, a_type, a_prevKept, a_nextKept, a_implicit, a_pair, a_valid, a_taken, a_stackLevel, a_stackOverride, a_stackIsolate, a_seq, a_kind, a_mate, a_openAt, a_wasMark, a_lineFirst, a_lineSlot, a_lineLv, a_order, a_place) (nI i) :=
  bx_es27 hi (by rw [hc]; decide) (bx_ifI (fun z => br_f (by rw [hc]; decide) (br_t hc k)) (fun z => absurd z (by rw [hc]; decide)))
theorem bx_es_bn {post : SX → Prop} {i : Nat} (hi : i < 32) (hc : a_text i = 9) (k : post (f_cap, f_depth, f_size, f_paragraph, f_lines, f_resolved, f_top, f_overflowIsolates, f_overflowEmbeddings, f_validIsolates, f_seqLen, f_seqLevel, f_runDir, f_sos, f_eos, f_openCount, a_text, a_breakAfter, a_partner, a_level, a_type, a_prevKept, a_nextKept, a_implicit, a_pair, a_valid, a_taken, a_stackLevel, a_stackOverride, a_stackIsolate, a_seq, a_kind, a_mate, a_openAt, a_wasMark, a_lineFirst, a_lineSlot, a_lineLv, a_order, a_place)) : wpX_explicitStep post (f_cap, f_depth, f_size, f_paragraph, f_lines, f_resolved, f_top, f_overflowIsolates, f_overflowEmbeddings, f_validIsolates, f_seqLen, f_seqLevel, f_runDir, f_sos, f_eos, f_openCount, a_text, a_breakAfter, a_partner, a_level, a_type, a_prevKept, a_nextKept, a_implicit, a_pair, a_valid, a_taken, a_stackLevel, a_stackOverride, a_stackIsolate, a_seq, a_kind, a_mate, a_openAt, a_wasMark, a_lineFirst, a_lineSlot, a_lineLv, a_order, a_place) (nI i) :=
  bx_es27 hi (by rw [hc]; decide) (bx_ifI (fun z => br_f (by rw [hc]; decide) (br_f (by rw [hc]; decide) (br_t hc k))) (fun z => absurd z (by rw [hc]; decide)))
theorem bx_es_st {post : SX → Prop} {i : Nat} (hi : i < 32) (h1 : ¬ (¬ a_text i < 14 ∧ ¬ 17 < a_text i)) (hI : ¬ bi_I (a_text i)) (h22 : ¬ a_text i = 22) (h18 : ¬ a_text i = 18) (h9 : ¬ a_text i = 9) (k : wpX_stamp post (f_cap, f_depth, f_size, f_paragraph, f_lines, f_resolved, f_top, f_overflowIsolates, f_overflowEmbeddings, f_validIsolates, f_seqLen, f_seqLevel, f_runDir, f_sos, f_eos, f_openCount, a_text, a_breakAfter, a_partner, a_level, a_type, a_prevKept, a_nextKept, a_implicit, a_pair, a_valid, a_taken, a_stackLevel, a_stackOverride, a_stackIsolate, a_seq, a_kind, a_mate, a_openAt, a_wasMark, a_lineFirst, a_lineSlot, a_lineLv, a_order, a_place) (nI i)) : wpX_explicitStep post (f_cap, f_depth, f_size, f_paragraph, f_lines, f_resolved, f_top, f_overflowIsolates, f_overflowEmbeddings, f_validIsolates, f_seqLen, f_seqLevel, f_runDir, f_sos, f_eos, f_openCount, a_text, a_breakAfter, a_partner, a_level, a_type, a_prevKept, a_nextKept, a_implicit, a_pair, a_valid, a_taken, a_stackLevel, a_stackOverride, a_stackIsolate, a_seq, a_kind, a_mate, a_openAt, a_wasMark, a_lineFirst, a_lineSlot, a_lineLv, a_order, a_place) (nI i) :=
  bx_es27 hi h1 (bx_ifI (fun z => br_f h22 (br_f h18 (br_f h9 k))) (fun z => absurd z hI))
end
section
variable {f_cap f_depth f_size f_paragraph f_lines f_resolved f_top f_overflowIsolates f_overflowEmbeddings f_validIsolates f_seqLen f_seqLevel f_runDir f_sos f_eos f_openCount : Int32} {a_text a_breakAfter a_partner a_level a_type a_prevKept a_nextKept a_implicit a_pair a_valid a_taken a_stackLevel a_stackOverride a_stackIsolate a_seq a_kind a_mate a_openAt a_wasMark a_lineFirst a_lineSlot a_lineLv a_order a_place : Nat → Int32}
variable {g_cap g_depth g_len g_para g_count g_e g_way g_sos g_eos g_done : Int32} {b_text b_cut b_pair b_res b_level b_over b_type b_first b_seq b_open b_stLevel b_stOver b_stIso : Nat → Int32}
variable {T pt : Nat → Int32} {N D P i t oi oe vi : Nat} {sl lv : Nat → Nat} {SL SO SI LX TX VX LY TY FY OY PY : Nat → Int32}
theorem bi_ex_step (hN : N ≤ 32) (hi : i < N) (hD : D ≤ 12) (hP : P ≤ D) (hB : ∀ k, k + 1 < N → ¬ T k = 10) (hT : ∀ k, k < N → ¬ T k < 0) (hp : bi_PM T N pt) (E : bi_EX T N D i t oi oe vi sl lv SL SO SI LX TX VX LY TY FY OY PY) :
    ∃ (t' oi' oe' vi' : Nat) (sl' lv' : Nat → Nat) (SL' SO' SI' LX' TX' VX' LY' TY' FY' OY' PY' : Nat → Int32), bi_EX T N D (i + 1) t' oi' oe' vi' sl' lv' SL' SO' SI' LX' TX' VX' LY' TY' FY' OY' PY' ∧
      (∀ (post : SX → Prop) (n : Nat), wX_assignExplicit_32 post n (nI (i + 1)) f_cap (nI D) (nI N) (nI P) f_lines f_resolved (nI (t')) (nI (oi')) (nI (oe')) (nI (vi')) f_seqLen f_seqLevel f_runDir f_sos f_eos f_openCount T a_breakAfter pt LX' TX' a_prevKept a_nextKept a_implicit a_pair VX' a_taken SL' SO' SI' a_seq a_kind a_mate a_openAt a_wasMark a_lineFirst a_lineSlot a_lineLv a_order a_place → wX_assignExplicit_32 post (n + 1) (nI i) f_cap (nI D) (nI N) (nI P) f_lines f_resolved (nI (t)) (nI (oi)) (nI (oe)) (nI (vi)) f_seqLen f_seqLevel f_runDir f_sos f_eos f_openCount T a_breakAfter pt LX TX a_prevKept a_nextKept a_implicit a_pair VX a_taken SL SO SI a_seq a_kind a_mate a_openAt a_wasMark a_lineFirst a_lineSlot a_lineLv a_order a_place) ∧
      (∀ (post : SY → Prop) (n : Nat), wY_explicit_36 post g_cap (nI D) (nI N) (nI P) g_count g_e g_way g_sos g_eos g_done n (nI (t' + 1)) (nI oi') (nI oe') (nI vi') (nI (i + 1)) T b_cut PY' b_res LY' OY' TY' FY' b_seq b_open SL' SO' SI' → wY_explicit_36 post g_cap (nI D) (nI N) (nI P) g_count g_e g_way g_sos g_eos g_done (n + 1) (nI (t + 1)) (nI oi) (nI oe) (nI vi) (nI i) T b_cut PY b_res LY OY TY FY b_seq b_open SL SO SI) := by
  obtain ⟨eS, ⟨eo, ee, ev⟩, eP, eV, eQ, eN⟩ := E
  have ht := bi_SK_t eS
  obtain ⟨s1, s2, s3, s4⟩ := eS.1 t (Nat.le_refl _)
  have hA := bi_A_le SI t
  obtain ⟨r, hr⟩ := bi_RT_ex T N i
  have hnx := bi_nx_gt (sl t) r
  have hV0 : VX i = 0 := eV.2 i (Nat.le_refl _) hi
  have hge : ¬ nI N ≤ nI i := nI_ge hi (by omega)
  by_cases cE : ¬ T i < 14 ∧ ¬ 17 < T i
  · -- an embedding
    have cR : bi_R (T i) := Or.inr ⟨cE.1, fun z => cE.2 (Int32.lt_trans (by decide) z)⟩
    have cI : ¬ bi_I (T i) := by
      intro z
      have h1 := z.1
      have h2 := cE.2
      rw [Int32.lt_iff_toInt_lt] at h1 h2
      rw [show (19 : Int32).toInt = 19 by decide] at h1
      rw [show (17 : Int32).toInt = 17 by decide] at h2
      omega
    have c22 : ¬ T i = 22 := fun z => by rw [z] at cE; exact absurd cE (by decide)
    have c18 : ¬ T i = 18 := fun z => by rw [z] at cE; exact absurd cE (by decide)
    have c21 : ¬ T i = 21 := fun z => by rw [z] at cE; exact absurd cE (by decide)
    have hr16 : r = true ↔ ¬ T i < 16 := by
      obtain ⟨o, _, h⟩ := hr
      rw [if_neg c21] at h
      rw [h]
      have a1 := cE.1
      have a2 := cE.2
      constructor
      · rintro (z | z | z) <;> rw [z] <;> decide
      · intro z
        rw [Int32.lt_iff_toInt_lt] at a2 z
        rw [show (17 : Int32).toInt = 17 by decide] at a2
        rw [show (16 : Int32).toInt = 16 by decide] at z
        have : (T i).toInt = 16 ∨ (T i).toInt = 17 := by omega
        rcases this with w | w
        · exact Or.inl (Int32.toInt_inj.mp (by rw [w]; decide))
        · exact Or.inr (Or.inl (Int32.toInt_inj.mp (by rw [w]; decide)))
    have hov : bi_ov (T i) = -1 ∨ bi_ov (T i) = 0 ∨ bi_ov (T i) = 1 := by
      unfold bi_ov
      by_cases a : T i = 15
      · rw [if_pos a]; exact Or.inr (Or.inl rfl)
      · rw [if_neg a]
        by_cases b : T i = 17
        · rw [if_pos b]; exact Or.inr (Or.inr rfl)
        · rw [if_neg b]; exact Or.inl rfl
    have nI10 : ∀ {x y : Nat}, ¬ (false = true ∧ x = y) := fun z => by cases z.1
    by_cases ad : bi_nx (sl t) r ≤ D ∧ oi = 0 ∧ oe = 0
    · refine ⟨t + 1, oi, oe, vi, fun j => if j = t + 1 then bi_nx (sl t) r else sl j, lv, upd SL (t + 1) (nI (bi_nx (sl t) r)), upd SO (t + 1) (bi_ov (T i)), upd SI (t + 1) 0, LX, TX, VX, upd LY i (bi_sl (T i) (nI P) (SL t)), upd TY i (bi_ty (T i) (SO t)), upd FY i (bi_ty (T i) (SO t)), upd OY i 0, upd PY i (-1), ⟨bi_SK_push eS hnx.1 ad.1 hov, ⟨by omega, by omega, ?_⟩, bi_PO_re eP cR, bi_VO_no eV hi cI, bi_PY_s eQ, bi_NE_emb hi hB eN cI c22 cR hV0⟩, fun post n K => ?_, fun post n K => ?_⟩
      · rw [bi_A_0 pk_us, bi_A_congr (SI := SI) (fun j hj => pk_un (by omega))]; exact ev
      · exact br_f hge (bx_es_emb (by omega) cE.1 cE.2 (bx_embed r hr16 hD (by omega) (by omega) (by omega) (by omega) s1 (fun _ => nm_r (nI_1 i) K) (fun z => absurd ad z) (fun z => absurd ad z)))
      · refine by_36 r hr hN hi hD (by omega) (by omega) s1 (by omega) (by omega) (fun f m hf hm => by_113 (by omega) (by omega) (by omega) (by omega) (by omega) (fun t' oi' oe' vi' h => ?_))
        rcases h with h | h | ⟨_, _, rfl, rfl, rfl, rfl⟩
        · exact absurd h.1 c22
        · exact absurd h.1 c18
        · have fm := hf.mpr ad
          have mm := hm.mpr cE
          subst fm; subst mm
          exact by_249 true true (by omega) (by omega) (by omega) (fun _ _ => K) (fun z => absurd ⟨rfl, Or.inl rfl⟩ z) (fun z => absurd ⟨rfl, Or.inl rfl⟩ z) (fun z => absurd ⟨rfl, Or.inl rfl⟩ z)
    · by_cases oz : oi = 0
      · refine ⟨t, oi, oe + 1, vi, sl, lv, SL, SO, SI, LX, TX, VX, upd LY i (bi_sl (T i) (nI P) (SL t)), upd TY i (bi_ty (T i) (SO t)), upd FY i (bi_ty (T i) (SO t)), upd OY i 0, upd PY i (-1), ⟨eS, ⟨by omega, by omega, ev⟩, bi_PO_re eP cR, bi_VO_no eV hi cI, bi_PY_s eQ, bi_NE_other hi hB eS.2 eN cI c22 hV0 (fun _ _ => rfl) (fun z => absurd cR z)⟩, fun post n K => ?_, fun post n K => ?_⟩
        · exact br_f hge (bx_es_emb (by omega) cE.1 cE.2 (bx_embed r hr16 hD (by omega) (by omega) (by omega) (by omega) s1 (fun z => absurd z ad) (fun _ _ => nm_r (nI_1 i) K) (fun _ z => absurd oz z)))
        · refine by_36 r hr hN hi hD (by omega) (by omega) s1 (by omega) (by omega) (fun f m hf hm => by_113 (by omega) (by omega) (by omega) (by omega) (by omega) (fun t' oi' oe' vi' h => ?_))
          rcases h with h | h | ⟨_, _, rfl, rfl, rfl, rfl⟩
          · exact absurd h.1 c22
          · exact absurd h.1 c18
          · have fm : ¬ f = true := fun z => ad (hf.mp z)
            have mm := hm.mpr cE
            subst mm
            exact by_249 f true (by omega) (by omega) (by omega) (fun z => absurd z fm) (fun _ _ _ => K) (fun _ z => absurd ⟨rfl, oz⟩ z) (fun _ z => absurd ⟨rfl, oz⟩ z)
      · refine ⟨t, oi, oe, vi, sl, lv, SL, SO, SI, LX, TX, VX, upd LY i (bi_sl (T i) (nI P) (SL t)), upd TY i (bi_ty (T i) (SO t)), upd FY i (bi_ty (T i) (SO t)), upd OY i 0, upd PY i (-1), ⟨eS, ⟨by omega, by omega, ev⟩, bi_PO_re eP cR, bi_VO_no eV hi cI, bi_PY_s eQ, bi_NE_other hi hB eS.2 eN cI c22 hV0 (fun _ _ => rfl) (fun z => absurd cR z)⟩, fun post n K => ?_, fun post n K => ?_⟩
        · exact br_f hge (bx_es_emb (by omega) cE.1 cE.2 (bx_embed r hr16 hD (by omega) (by omega) (by omega) (by omega) s1 (fun z => absurd z ad) (fun _ z => absurd z oz) (fun _ _ => nm_r (nI_1 i) K)))
        · refine by_36 r hr hN hi hD (by omega) (by omega) s1 (by omega) (by omega) (fun f m hf hm => by_113 (by omega) (by omega) (by omega) (by omega) (by omega) (fun t' oi' oe' vi' h => ?_))
          rcases h with h | h | ⟨_, _, rfl, rfl, rfl, rfl⟩
          · exact absurd h.1 c22
          · exact absurd h.1 c18
          · have fm : ¬ f = true := fun z => ad (hf.mp z)
            exact by_249 f m (by omega) (by omega) (by omega) (fun z => absurd z fm) (fun _ _ z => absurd z oz) (fun _ _ z => absurd z cI) (fun _ _ _ => K)
  · have mF : ∀ m : Bool, (m = true ↔ (¬ T i < 14 ∧ ¬ 17 < T i)) → m = false := by
      intro m hm
      cases m
      · rfl
      · exact absurd (hm.mp rfl) cE
    by_cases cI : bi_I (T i)
    · -- an isolate initiator
      have c22 : ¬ T i = 22 := fun z => bi_I22 z cI
      have c18 : ¬ T i = 18 := fun z => by rw [z] at cI; exact absurd cI (by decide)
      have c10 : ¬ T i = 10 := fun z => by rw [z] at cI; exact absurd cI (by decide)
      have c15 : ¬ T i = 15 := fun z => by rw [z] at cI; exact absurd cI (by decide)
      have c17 : ¬ T i = 17 := fun z => by rw [z] at cI; exact absurd cI (by decide)
      have eov : bi_ov (T i) = -1 := by unfold bi_ov; rw [if_neg c15, if_neg c17]
      have esl : bi_sl (T i) (nI P) (SL t) = nI (sl t) := by unfold bi_sl; rw [if_neg c10]; exact s1
      by_cases ad : bi_nx (sl t) r ≤ D ∧ oi = 0 ∧ oe = 0
      · have o0 := ad.2.1
        refine ⟨t + 1, oi, oe, vi + 1, fun j => if j = t + 1 then bi_nx (sl t) r else sl j, fun k => if k = i then sl t else lv k, upd SL (t + 1) (nI (bi_nx (sl t) r)), upd SO (t + 1) (-1), upd SI (t + 1) 1, upd LX i (bi_sl (T i) (nI P) (SL t)), upd TX i (bi_ty (T i) (SO t)), upd VX i 1, upd LY i (bi_sl (T i) (nI P) (SL t)), upd TY i (bi_ty (T i) (SO t)), upd FY i (bi_ty (T i) (SO t)), upd OY i 0, upd PY i (-1), ⟨bi_SK_push eS hnx.1 ad.1 (Or.inl rfl), ⟨by omega, by omega, ?_⟩, bi_PO_st eP esl s3 (fun z => bi_ty_k0 (hT i hi) z s4), bi_VO_ok eV cI, bi_PY_s eQ, ?_⟩, fun post n K => ?_, fun post n K => ?_⟩
        · rw [bi_A_1 (by rw [pk_us]; decide), bi_A_congr (SI := SI) (fun j hj => pk_un (by omega)), ev]
        · rw [o0] at eN ⊢
          exact bi_NE_iso hi hB eS.2 eN cI (fun k hk => if_neg (by omega)) (if_pos rfl)
        · exact br_f hge (bx_es_iso (by omega) cI (bx_iso r hr hN hi cI hp hD (by omega) (by omega) (by omega) (by omega) (by omega) s1 (fun _ => nm_r (nI_1 i) K) (fun z => absurd ad z)))
        · refine by_36 r hr hN hi hD (by omega) (by omega) s1 (by omega) (by omega) (fun f m hf hm => by_113 (by omega) (by omega) (by omega) (by omega) (by omega) (fun t' oi' oe' vi' h => ?_))
          rcases h with h | h | ⟨_, _, rfl, rfl, rfl, rfl⟩
          · exact absurd h.1 c22
          · exact absurd h.1 c18
          · have fm := hf.mpr ad
            have mm := mF m hm
            subst fm; subst mm
            exact by_249 true false (by omega) (by omega) (by omega) (fun _ _ => by rw [eov]; exact K) (fun z => absurd ⟨rfl, Or.inr cI⟩ z) (fun z => absurd ⟨rfl, Or.inr cI⟩ z) (fun z => absurd ⟨rfl, Or.inr cI⟩ z)
      · refine ⟨t, oi + 1, oe, vi, sl, fun k => if k = i then sl t else lv k, SL, SO, SI, upd LX i (bi_sl (T i) (nI P) (SL t)), upd TX i (bi_ty (T i) (SO t)), upd VX i 0, upd LY i (bi_sl (T i) (nI P) (SL t)), upd TY i (bi_ty (T i) (SO t)), upd FY i (bi_ty (T i) (SO t)), upd (upd OY i 0) i 1, upd PY i (-1), ⟨eS, ⟨by omega, by omega, ev⟩, bi_PO_st eP esl s3 (fun z => bi_ty_k0 (hT i hi) z s4), bi_VO_ov eV cI, bi_PY_s eQ, bi_NE_iov hi hB eS.2 eN cI (fun k hk => if_neg (by omega)) (if_pos rfl)⟩, fun post n K => ?_, fun post n K => ?_⟩
        · exact br_f hge (bx_es_iso (by omega) cI (bx_iso r hr hN hi cI hp hD (by omega) (by omega) (by omega) (by omega) (by omega) s1 (fun z => absurd z ad) (fun _ => nm_r (nI_1 i) K)))
        · refine by_36 r hr hN hi hD (by omega) (by omega) s1 (by omega) (by omega) (fun f m hf hm => by_113 (by omega) (by omega) (by omega) (by omega) (by omega) (fun t' oi' oe' vi' h => ?_))
          rcases h with h | h | ⟨_, _, rfl, rfl, rfl, rfl⟩
          · exact absurd h.1 c22
          · exact absurd h.1 c18
          · have fm : ¬ f = true := fun z => ad (hf.mp z)
            have mm := mF m hm
            subst mm
            exact by_249 f false (by omega) (by omega) (by omega) (fun z => absurd z fm) (fun _ z => by cases z) (fun _ _ _ => K) (fun _ _ z => absurd cI z)
    · -- neither: the reference only stamps
      have tail : ∀ {post : SY → Prop} {n t' oi' oe' vi' : Nat}, t' + 1 < 40 → oi' < 2 ^ 30 → ∀ f m : Bool, (m = true ↔ (¬ T i < 14 ∧ ¬ 17 < T i)) →
          wY_explicit_36 post g_cap (nI D) (nI N) (nI P) g_count g_e g_way g_sos g_eos g_done n (nI (t' + 1)) (nI oi') (nI oe') (nI vi') (nI (i + 1)) T b_cut (upd PY i (-1)) b_res (upd LY i (bi_sl (T i) (nI P) (SL t'))) (upd OY i 0) (upd TY i (bi_ty (T i) (SO t'))) (upd FY i (bi_ty (T i) (SO t'))) b_seq b_open SL SO SI →
          wY_explicit_249 post (wY_explicit_36 post g_cap (nI D) (nI N) (nI P) g_count g_e g_way g_sos g_eos g_done n) (nI (t' + 1)) (nI oi') (nI oe') (nI vi') (nI i) (T i) (nI (bi_nx (sl t) r)) (bi_b f) (bi_b m) g_cap (nI D) (nI N) (nI P) g_count g_e g_way g_sos g_eos g_done T b_cut (upd PY i (-1)) b_res LY (upd OY i 0) TY FY b_seq b_open SL SO SI := by
        intro post n t' oi' oe' vi' a1 a2 f m hm K
        have mm := mF m hm
        subst mm
        have no : ¬ (f = true ∧ (false = true ∨ bi_I (T i))) := fun z => z.2.elim (fun w => by cases w) cI
        exact by_249 f false (by omega) a1 a2 (fun z1 z2 => absurd ⟨z1, z2⟩ no) (fun _ z => by cases z) (fun _ _ z => absurd z cI) (fun _ _ _ => K)
      by_cases c22 : T i = 22
      · -- PDI
        have c18 : ¬ T i = 18 := by rw [c22]; decide
        have c10 : ¬ T i = 10 := by rw [c22]; decide
        by_cases o0 : oi = 0
        · by_cases v0 : vi = 0
          · have esl : bi_sl (T i) (nI P) (SL t) = nI (sl t) := by unfold bi_sl; rw [if_neg c10]; exact s1
            refine ⟨t, oi, oe, vi, sl, fun k => if k = i then sl t else lv k, SL, SO, SI, upd LX i (bi_sl (T i) (nI P) (SL t)), upd TX i (bi_ty (T i) (SO t)), VX, upd LY i (bi_sl (T i) (nI P) (SL t)), upd TY i (bi_ty (T i) (SO t)), upd FY i (bi_ty (T i) (SO t)), upd OY i 0, upd PY i (-1), ⟨eS, ⟨by omega, by omega, ev⟩, bi_PO_st eP esl s3 (fun z => bi_ty_k0 (hT i hi) z s4), bi_VO_no eV hi cI, bi_PY_s eQ, bi_NE_pd0 hi hB eN (by omega) hV0 (fun k hk => if_neg (by omega))⟩, fun post n K => ?_, fun post n K => ?_⟩
            · exact br_f hge (bx_es_pdi (by omega) c22 (bx_close (by omega) (by omega) (by omega) (by omega) (fun z => absurd o0 (by omega)) (fun _ _ => nm_r (nI_1 i) K) (fun _ z => absurd v0 (by omega))))
            · refine by_36 r hr hN hi hD (by omega) (by omega) s1 (by omega) (by omega) (fun f m hf hm => by_113 (by omega) (by omega) (by omega) (by omega) (by omega) (fun t' oi' oe' vi' h => ?_))
              rcases h with ⟨_, h | h | h⟩ | h | h
              · omega
              · obtain ⟨_, _, rfl, rfl, rfl, rfl⟩ := h
                exact tail (by omega) (by omega) f m hm K
              · omega
              · exact absurd h.1 c18
              · exact absurd c22 h.1
          · have q1 := bi_pt_le SI t
            obtain ⟨s1', s2', s3', s4'⟩ := eS.1 (bi_pt SI t - 1) (by omega)
            have esl : bi_sl (T i) (nI P) (SL (bi_pt SI t - 1)) = nI (sl (bi_pt SI t - 1)) := by unfold bi_sl; rw [if_neg c10]; exact s1'
            have ne := bi_NE_pdi (lv' := fun k => if k = i then sl (bi_pt SI t - 1) else lv k) hi hB eS.2 (by rw [o0] at eN; exact eN) c22 (by omega) hV0 (fun k hk => if_neg (by omega)) (if_pos rfl)
            refine ⟨bi_pt SI t - 1, oi, 0, vi - 1, sl, fun k => if k = i then sl (bi_pt SI t - 1) else lv k, SL, SO, SI, upd LX i (bi_sl (T i) (nI P) (SL (bi_pt SI t - 1))), upd TX i (bi_ty (T i) (SO (bi_pt SI t - 1))), VX, upd LY i (bi_sl (T i) (nI P) (SL (bi_pt SI t - 1))), upd TY i (bi_ty (T i) (SO (bi_pt SI t - 1))), upd FY i (bi_ty (T i) (SO (bi_pt SI t - 1))), upd OY i 0, upd PY i (-1), ⟨bi_SK_pop eS (by omega), ⟨by omega, by omega, by rw [ne.2, ev]⟩, bi_PO_st eP esl s3' (fun z => bi_ty_k0 (hT i hi) z s4'), bi_VO_no eV hi cI, bi_PY_s eQ, by rw [o0]; exact ne.1⟩, fun post n K => ?_, fun post n K => ?_⟩
            · exact br_f hge (bx_es_pdi (by omega) c22 (bx_close (by omega) (by omega) (by omega) (by omega) (fun z => absurd o0 (by omega)) (fun _ z => absurd z v0) (fun _ _ => nm_r (nI_1 i) K)))
            · refine by_36 r hr hN hi hD (by omega) (by omega) s1 (by omega) (by omega) (fun f m hf hm => by_113 (by omega) (by omega) (by omega) (by omega) (by omega) (fun t' oi' oe' vi' h => ?_))
              rcases h with ⟨_, h | h | h⟩ | h | h
              · omega
              · omega
              · obtain ⟨_, _, rfl, rfl, rfl, rfl⟩ := h
                exact tail (by omega) (by omega) f m hm K
              · exact absurd h.1 c18
              · exact absurd c22 h.1
        · have esl : bi_sl (T i) (nI P) (SL t) = nI (sl t) := by unfold bi_sl; rw [if_neg c10]; exact s1
          refine ⟨t, oi - 1, oe, vi, sl, fun k => if k = i then sl t else lv k, SL, SO, SI, upd LX i (bi_sl (T i) (nI P) (SL t)), upd TX i (bi_ty (T i) (SO t)), VX, upd LY i (bi_sl (T i) (nI P) (SL t)), upd TY i (bi_ty (T i) (SO t)), upd FY i (bi_ty (T i) (SO t)), upd OY i 0, upd PY i (-1), ⟨eS, ⟨by omega, by omega, ev⟩, bi_PO_st eP esl s3 (fun z => bi_ty_k0 (hT i hi) z s4), bi_VO_no eV hi cI, bi_PY_s eQ, bi_NE_pdo hi hB eS.2 eN c22 (by omega) hV0 (fun k hk => if_neg (by omega)) (if_pos rfl)⟩, fun post n K => ?_, fun post n K => ?_⟩
          · exact br_f hge (bx_es_pdi (by omega) c22 (bx_close (by omega) (by omega) (by omega) (by omega) (fun _ => nm_r (nI_1 i) K) (fun z => absurd z o0) (fun z => absurd z o0)))
          · refine by_36 r hr hN hi hD (by omega) (by omega) s1 (by omega) (by omega) (fun f m hf hm => by_113 (by omega) (by omega) (by omega) (by omega) (by omega) (fun t' oi' oe' vi' h => ?_))
            rcases h with ⟨_, h | h | h⟩ | h | h
            · obtain ⟨_, rfl, rfl, rfl, rfl⟩ := h
              exact tail (by omega) (by omega) f m hm K
            · omega
            · omega
            · exact absurd h.1 c18
            · exact absurd c22 h.1
      · by_cases c18 : T i = 18
        · -- PDF
          have cR : bi_R (T i) := by rw [c18]; decide
          have same : bi_EX T N D (i + 1) t oi oe vi sl lv SL SO SI LX TX VX (upd LY i (bi_sl (T i) (nI P) (SL t))) (upd TY i (bi_ty (T i) (SO t))) (upd FY i (bi_ty (T i) (SO t))) (upd OY i 0) (upd PY i (-1)) := ⟨eS, ⟨by omega, by omega, ev⟩, bi_PO_re eP cR, bi_VO_no eV hi cI, bi_PY_s eQ, bi_NE_other hi hB eS.2 eN cI c22 hV0 (fun _ _ => rfl) (fun z => absurd cR z)⟩
          by_cases o0 : oi = 0
          · by_cases e0 : oe = 0
            · by_cases tz : t = 0 ∨ ¬ SI t = 0
              · refine ⟨t, oi, oe, vi, sl, lv, SL, SO, SI, LX, TX, VX, _, _, _, _, _, same, fun post n K => ?_, fun post n K => ?_⟩
                · exact br_f hge (bx_es_pdf (by omega) c18 (bx_pdf (by omega) (by omega) (by omega) (fun z => absurd o0 (by omega)) (fun _ z => absurd e0 (by omega)) (fun _ _ _ => nm_r (nI_1 i) K) (fun _ _ z1 z2 => absurd tz (fun w => w.elim (fun q => by omega) (fun q => q z2)))))
                · refine by_36 r hr hN hi hD (by omega) (by omega) s1 (by omega) (by omega) (fun f m hf hm => by_113 (by omega) (by omega) (by omega) (by omega) (by omega) (fun t' oi' oe' vi' h => ?_))
                  rcases h with h | ⟨_, h | h | h | h⟩ | h
                  · exact absurd h.1 c22
                  · omega
                  · omega
                  · obtain ⟨_, _, _, rfl, rfl, rfl, rfl⟩ := h
                    exact tail (by omega) (by omega) f m hm K
                  · exact absurd tz (fun w => w.elim (fun q => by omega) (fun q => q h.2.2.2.1))
                  · exact absurd c18 h.2.1
              · have tp : 0 < t := Nat.pos_of_ne_zero (fun z => tz (Or.inl z))
                have t0 : SI t = 0 := Classical.byContradiction (fun z => tz (Or.inr z))
                have hA1 : bi_A SI t = bi_A SI (t - 1) := by
                  obtain ⟨s, rfl⟩ : ∃ s, t = s + 1 := ⟨t - 1, by omega⟩
                  exact bi_A_0 t0
                refine ⟨t - 1, oi, oe, vi, sl, lv, SL, SO, SI, LX, TX, VX, upd LY i (bi_sl (T i) (nI P) (SL (t - 1))), upd TY i (bi_ty (T i) (SO (t - 1))), upd FY i (bi_ty (T i) (SO (t - 1))), upd OY i 0, upd PY i (-1), ⟨bi_SK_pop eS (by omega), ⟨by omega, by omega, by rw [ev, hA1]⟩, bi_PO_re eP cR, bi_VO_no eV hi cI, bi_PY_s eQ, bi_NE_pdf hi hB eN c18 hV0 tp t0⟩, fun post n K => ?_, fun post n K => ?_⟩
                · exact br_f hge (bx_es_pdf (by omega) c18 (bx_pdf (by omega) (by omega) (by omega) (fun z => absurd o0 (by omega)) (fun _ z => absurd e0 (by omega)) (fun _ _ z => absurd z tz) (fun _ _ _ _ => nm_r (nI_1 i) K)))
                · refine by_36 r hr hN hi hD (by omega) (by omega) s1 (by omega) (by omega) (fun f m hf hm => by_113 (by omega) (by omega) (by omega) (by omega) (by omega) (fun t' oi' oe' vi' h => ?_))
                  rcases h with h | ⟨_, h | h | h | h⟩ | h
                  · exact absurd h.1 c22
                  · omega
                  · omega
                  · exact absurd h.2.2.1 tz
                  · obtain ⟨_, _, _, _, rfl, rfl, rfl, rfl⟩ := h
                    exact tail (by omega) (by omega) f m hm K
                  · exact absurd c18 h.2.1
            · refine ⟨t, oi, oe - 1, vi, sl, lv, SL, SO, SI, LX, TX, VX, upd LY i (bi_sl (T i) (nI P) (SL t)), upd TY i (bi_ty (T i) (SO t)), upd FY i (bi_ty (T i) (SO t)), upd OY i 0, upd PY i (-1), ⟨same.1, ⟨by omega, by omega, ev⟩, same.2.2⟩, fun post n K => ?_, fun post n K => ?_⟩
              · exact br_f hge (bx_es_pdf (by omega) c18 (bx_pdf (by omega) (by omega) (by omega) (fun z => absurd o0 (by omega)) (fun _ _ => nm_r (nI_1 i) K) (fun _ z => absurd z e0) (fun _ z => absurd z e0)))
              · refine by_36 r hr hN hi hD (by omega) (by omega) s1 (by omega) (by omega) (fun f m hf hm => by_113 (by omega) (by omega) (by omega) (by omega) (by omega) (fun t' oi' oe' vi' h => ?_))
                rcases h with h | ⟨_, h | h | h | h⟩ | h
                · exact absurd h.1 c22
                · omega
                · obtain ⟨_, _, rfl, rfl, rfl, rfl⟩ := h
                  exact tail (by omega) (by omega) f m hm K
                · omega
                · omega
                · exact absurd c18 h.2.1
          · refine ⟨t, oi, oe, vi, sl, lv, SL, SO, SI, LX, TX, VX, _, _, _, _, _, same, fun post n K => ?_, fun post n K => ?_⟩
            · exact br_f hge (bx_es_pdf (by omega) c18 (bx_pdf (by omega) (by omega) (by omega) (fun _ => nm_r (nI_1 i) K) (fun z => absurd z o0) (fun z => absurd z o0) (fun z => absurd z o0)))
            · refine by_36 r hr hN hi hD (by omega) (by omega) s1 (by omega) (by omega) (fun f m hf hm => by_113 (by omega) (by omega) (by omega) (by omega) (by omega) (fun t' oi' oe' vi' h => ?_))
              rcases h with h | ⟨_, h | h | h | h⟩ | h
              · exact absurd h.1 c22
              · obtain ⟨_, rfl, rfl, rfl, rfl⟩ := h
                exact tail (by omega) (by omega) f m hm K
              · omega
              · omega
              · omega
              · exact absurd c18 h.2.1
        · have yw : ∀ (post : SY → Prop) (n : Nat), wY_explicit_36 post g_cap (nI D) (nI N) (nI P) g_count g_e g_way g_sos g_eos g_done n (nI (t + 1)) (nI oi) (nI oe) (nI vi) (nI (i + 1)) T b_cut (upd PY i (-1)) b_res (upd LY i (bi_sl (T i) (nI P) (SL t))) (upd OY i 0) (upd TY i (bi_ty (T i) (SO t))) (upd FY i (bi_ty (T i) (SO t))) b_seq b_open SL SO SI → wY_explicit_36 post g_cap (nI D) (nI N) (nI P) g_count g_e g_way g_sos g_eos g_done (n + 1) (nI (t + 1)) (nI oi) (nI oe) (nI vi) (nI i) T b_cut PY b_res LY OY TY FY b_seq b_open SL SO SI := by
            intro post n K
            refine by_36 r hr hN hi hD (by omega) (by omega) s1 (by omega) (by omega) (fun f m hf hm => by_113 (by omega) (by omega) (by omega) (by omega) (by omega) (fun t' oi' oe' vi' h => ?_))
            rcases h with h | h | ⟨_, _, rfl, rfl, rfl, rfl⟩
            · exact absurd h.1 c22
            · exact absurd h.1 c18
            · exact tail (by omega) (by omega) f m hm K
          by_cases c9 : T i = 9
          · -- BN
            have cR : bi_R (T i) := Or.inl c9
            exact ⟨t, oi, oe, vi, sl, lv, SL, SO, SI, LX, TX, VX, _, _, _, _, _, ⟨eS, ⟨by omega, by omega, ev⟩, bi_PO_re eP cR, bi_VO_no eV hi cI, bi_PY_s eQ, bi_NE_other hi hB eS.2 eN cI c22 hV0 (fun _ _ => rfl) (fun z => absurd cR z)⟩, fun post n K => br_f hge (bx_es_bn (by omega) c9 (nm_r (nI_1 i) K)), yw⟩
          · -- an ordinary code
            have sel : ∃ u, bi_sl (T i) (nI P) (SL t) = nI u ∧ u ≤ D ∧ (¬ T i = 10 → u = sl t) := by
              unfold bi_sl
              by_cases z : T i = 10
              · rw [if_pos z]; exact ⟨P, rfl, hP, fun w => absurd z w⟩
              · rw [if_neg z]; exact ⟨sl t, s1, s3, fun _ => rfl⟩
            obtain ⟨u, u1, u2, u3⟩ := sel
            exact ⟨t, oi, oe, vi, sl, fun k => if k = i then u else lv k, SL, SO, SI, upd LX i (bi_sl (T i) (nI P) (SL t)), upd TX i (bi_ty (T i) (SO t)), VX, _, _, _, _, _, ⟨eS, ⟨by omega, by omega, ev⟩, bi_PO_st eP u1 u2 (fun z => bi_ty_k0 (hT i hi) z s4), bi_VO_no eV hi cI, bi_PY_s eQ, bi_NE_other hi hB eS.2 eN cI c22 hV0 (fun k hk => if_neg (by omega)) (fun _ z => (if_pos rfl).trans (u3 z))⟩, fun post n K => br_f hge (bx_es_st (by omega) cE cI c22 c18 c9 (bx_stamp (by omega) (by omega) (nm_r (nI_1 i) K))), yw⟩
end
end
section
/-! explicit levels: the whole pass -/
def bi_E3 (T : Nat → Int32) (N : Nat) (lv : Nat → Nat) (VX : Nat → Int32) : Prop := ∀ j e, j < N → VX j = 1 → bi_cl T N j = some e → lv e = lv j ∧ ∀ k, j < k → k < e → ¬ bi_R (T k) → lv j < lv k
theorem bi_NE_E3 {T : Nat → Int32} {N t oi : Nat} {sl lv : Nat → Nat} {SI VX : Nat → Int32} (h : bi_NE T N N t oi sl lv SI VX) : bi_E3 T N lv VX := by
  intro j e hj hv he
  rcases h j hj hv with ⟨e', e1, e2, e3, e4⟩ | ⟨q, q1, q2, q3, q4, q5, q6⟩
  · rw [he] at e2
    cases e2
    exact ⟨e3, e4⟩
  · rw [he, bi_C_end (Nat.le_refl _)] at q5
    cases q5
section
variable {f_cap f_depth f_size f_paragraph f_lines f_resolved f_top f_overflowIsolates f_overflowEmbeddings f_validIsolates f_seqLen f_seqLevel f_runDir f_sos f_eos f_openCount : Int32} {a_text a_breakAfter a_partner a_level a_type a_prevKept a_nextKept a_implicit a_pair a_valid a_taken a_stackLevel a_stackOverride a_stackIsolate a_seq a_kind a_mate a_openAt a_wasMark a_lineFirst a_lineSlot a_lineLv a_order a_place : Nat → Int32}
variable {g_cap g_depth g_len g_para g_count g_e g_way g_sos g_eos g_done : Int32} {b_text b_cut b_pair b_res b_level b_over b_type b_first b_seq b_open b_stLevel b_stOver b_stIso : Nat → Int32}
variable {T pt : Nat → Int32} {N D P : Nat}
theorem bi_ex_loop (hN : N ≤ 32) (hD : D ≤ 12) (hP : P ≤ D) (hB : ∀ k, k + 1 < N → ¬ T k = 10) (hT : ∀ k, k < N → ¬ T k < 0) (hp : bi_PM T N pt) :
    ∀ (d i t oi oe vi : Nat) (sl lv : Nat → Nat) (SL SO SI LX TX VX LY TY FY OY PY : Nat → Int32), i ≤ N → N - i = d → bi_EX T N D i t oi oe vi sl lv SL SO SI LX TX VX LY TY FY OY PY →
    ∃ (t' oi' oe' vi' : Nat) (sl' lv' : Nat → Nat) (SL' SO' SI' LX' TX' VX' LY' TY' FY' OY' PY' : Nat → Int32), bi_EX T N D N t' oi' oe' vi' sl' lv' SL' SO' SI' LX' TX' VX' LY' TY' FY' OY' PY' ∧
      (∀ (post : SX → Prop) (n : Nat), d < n → post (f_cap, nI D, nI N, nI P, f_lines, f_resolved, nI (t'), nI (oi'), nI (oe'), nI (vi'), f_seqLen, f_seqLevel, f_runDir, f_sos, f_eos, f_openCount, T, a_breakAfter, pt, LX', TX', a_prevKept, a_nextKept, a_implicit, a_pair, VX', a_taken, SL', SO', SI', a_seq, a_kind, a_mate, a_openAt, a_wasMark, a_lineFirst, a_lineSlot, a_lineLv, a_order, a_place) → wX_assignExplicit_32 post n (nI i) f_cap (nI D) (nI N) (nI P) f_lines f_resolved (nI (t)) (nI (oi)) (nI (oe)) (nI (vi)) f_seqLen f_seqLevel f_runDir f_sos f_eos f_openCount T a_breakAfter pt LX TX a_prevKept a_nextKept a_implicit a_pair VX a_taken SL SO SI a_seq a_kind a_mate a_openAt a_wasMark a_lineFirst a_lineSlot a_lineLv a_order a_place) ∧
      (∀ (post : SY → Prop) (n : Nat), d < n → post (g_cap, nI D, nI N, nI P, g_count, g_e, g_way, g_sos, g_eos, g_done, T, b_cut, PY', b_res, LY', OY', TY', FY', b_seq, b_open, SL', SO', SI') → wY_explicit_36 post g_cap (nI D) (nI N) (nI P) g_count g_e g_way g_sos g_eos g_done n (nI (t + 1)) (nI oi) (nI oe) (nI vi) (nI i) T b_cut PY b_res LY OY TY FY b_seq b_open SL SO SI) := by
  intro d
  induction d with
  | zero =>
    intro i t oi oe vi sl lv SL SO SI LX TX VX LY TY FY OY PY hi hd E
    have e : i = N := by omega
    subst e
    refine ⟨t, oi, oe, vi, sl, lv, SL, SO, SI, LX, TX, VX, LY, TY, FY, OY, PY, E, fun post n hn k => ?_, fun post n hn k => ?_⟩
    · obtain ⟨m, rfl⟩ : ∃ m, n = m + 1 := ⟨n - 1, by omega⟩
      exact br_t (nI_le (Nat.le_refl _) (by omega)) k
    · obtain ⟨m, rfl⟩ : ∃ m, n = m + 1 := ⟨n - 1, by omega⟩
      exact br_t (nI_le (Nat.le_refl _) (by omega)) k
  | succ d ih =>
    intro i t oi oe vi sl lv SL SO SI LX TX VX LY TY FY OY PY hi hd E
    obtain ⟨t1, oi1, oe1, vi1, sl1, lv1, SL1, SO1, SI1, LX1, TX1, VX1, LY1, TY1, FY1, OY1, PY1, E1, hx1, hy1⟩ := bi_ex_step hN (by omega) hD hP hB hT hp E
    obtain ⟨t2, oi2, oe2, vi2, sl2, lv2, SL2, SO2, SI2, LX2, TX2, VX2, LY2, TY2, FY2, OY2, PY2, E2, hx2, hy2⟩ := ih (i + 1) t1 oi1 oe1 vi1 sl1 lv1 SL1 SO1 SI1 LX1 TX1 VX1 LY1 TY1 FY1 OY1 PY1 (by omega) (by omega) E1
    refine ⟨t2, oi2, oe2, vi2, sl2, lv2, SL2, SO2, SI2, LX2, TX2, VX2, LY2, TY2, FY2, OY2, PY2, E2, fun post n hn k => ?_, fun post n hn k => ?_⟩
    · obtain ⟨m, rfl⟩ : ∃ m, n = m + 1 := ⟨n - 1, by omega⟩
      exact hx1 post m (hx2 post m (by omega) k)
    · obtain ⟨m, rfl⟩ : ∃ m, n = m + 1 := ⟨n - 1, by omega⟩
      exact hy1 post m (hy2 post m (by omega) k)
theorem bi_ex_all (hN : N ≤ 32) (hD : D ≤ 12) (hP : P ≤ D) (hB : ∀ k, k + 1 < N → ¬ T k = 10) (hT : ∀ k, k < N → ¬ T k < 0) (hp : bi_PM T N pt) (hv : ∀ k, k < N → a_valid k = 0) (SL SO SI : Nat → Int32) :
    ∃ (t' oi' oe' vi' : Nat) (sl' lv' : Nat → Nat) (SL' SO' SI' LX' TX' VX' LY' TY' FY' OY' PY' : Nat → Int32), bi_EX T N D N t' oi' oe' vi' sl' lv' SL' SO' SI' LX' TX' VX' LY' TY' FY' OY' PY' ∧
      (∀ (post : SX → Prop), post (f_cap, nI D, nI N, nI P, f_lines, f_resolved, nI (t'), nI (oi'), nI (oe'), nI (vi'), f_seqLen, f_seqLevel, f_runDir, f_sos, f_eos, f_openCount, T, a_breakAfter, pt, LX', TX', a_prevKept, a_nextKept, a_implicit, a_pair, VX', a_taken, SL', SO', SI', a_seq, a_kind, a_mate, a_openAt, a_wasMark, a_lineFirst, a_lineSlot, a_lineLv, a_order, a_place) → wpX_assignExplicit post (f_cap, nI D, nI N, nI P, f_lines, f_resolved, f_top, f_overflowIsolates, f_overflowEmbeddings, f_validIsolates, f_seqLen, f_seqLevel, f_runDir, f_sos, f_eos, f_openCount, T, a_breakAfter, pt, a_level, a_type, a_prevKept, a_nextKept, a_implicit, a_pair, a_valid, a_taken, SL, SO, SI, a_seq, a_kind, a_mate, a_openAt, a_wasMark, a_lineFirst, a_lineSlot, a_lineLv, a_order, a_place)) ∧
      (∀ (post : SY → Prop), post (g_cap, nI D, nI N, nI P, g_count, g_e, g_way, g_sos, g_eos, g_done, T, b_cut, PY', b_res, LY', OY', TY', FY', b_seq, b_open, SL', SO', SI') → wpY_explicit post (g_cap, nI D, nI N, nI P, g_count, g_e, g_way, g_sos, g_eos, g_done, T, b_cut, b_pair, b_res, b_level, b_over, b_type, b_first, b_seq, b_open, SL, SO, SI)) := by
  have E0 : bi_EX T N D 0 0 0 0 0 (fun _ => P) (fun _ => 0) (upd SL 0 (nI P)) (upd SO 0 (-1)) (upd SI 0 0) a_level a_type a_valid b_level b_type b_first b_over b_pair := by
    refine ⟨⟨fun j hj => ?_, fun j hj => by omega⟩, ⟨by omega, by omega, rfl⟩, fun k hk => by omega, ⟨fun k hk => by omega, fun k _ hk => hv k hk⟩, fun k hk => by omega, fun j hj => by omega⟩
    have e : j = 0 := by omega
    subst e
    rw [pk_us, pk_us]
    exact ⟨rfl, by omega, hP, Or.inl rfl⟩
  obtain ⟨t2, oi2, oe2, vi2, sl2, lv2, SL2, SO2, SI2, LX2, TX2, VX2, LY2, TY2, FY2, OY2, PY2, E2, hx2, hy2⟩ := bi_ex_loop hN hD hP hB hT hp N 0 0 0 0 0 _ _ _ _ _ _ _ _ _ _ _ _ _ (by omega) (by omega) E0
  refine ⟨t2, oi2, oe2, vi2, sl2, lv2, SL2, SO2, SI2, LX2, TX2, VX2, LY2, TY2, FY2, OY2, PY2, E2, fun post k => ?_, fun post k => ?_⟩
  · unfold wpX_assignExplicit
    exact bx_push0 (Exists.intro (N + 1) (hx2 post (N + 1) (by omega) k))
  · exact nm_e (nm_e (nm_e (Exists.intro (N + 1) (hy2 post (N + 1) (by omega) k))))
end
end
section
/-! retained neighbours and successors -/
def bi_pv (T : Nat → Int32) : Nat → Option Nat
  | 0 => none
  | i + 1 => if bi_R (T i) then bi_pv T i else some i
def bi_nf (T : Nat → Int32) (N : Nat) : Nat → Option Nat
  | 0 => none
  | f + 1 => if bi_R (T (N - (f + 1))) then bi_nf T N f else some (N - (f + 1))
def bi_nt (T : Nat → Int32) (N j : Nat) : Option Nat := bi_nf T N (N - j)
theorem bi_nt_end {T : Nat → Int32} {N j : Nat} (h : N ≤ j) : bi_nt T N j = none := by
  unfold bi_nt
  rw [show N - j = 0 by omega]; rfl
theorem bi_nt_eq {T : Nat → Int32} {N j : Nat} (h : j < N) : bi_nt T N j = if bi_R (T j) then bi_nt T N (j + 1) else some j := by
  unfold bi_nt
  have e : N - j = N - (j + 1) + 1 := by omega
  rw [e]
  have e2 : N - (N - (j + 1) + 1) = j := by omega
  rw [bi_nf, e2]
theorem bi_nt_val {T : Nat → Int32} {N e : Nat} : ∀ {m j : Nat}, N - j = m → bi_nt T N j = some e → j ≤ e ∧ e < N ∧ ¬ bi_R (T e) ∧ ∀ k, j ≤ k → k < e → bi_R (T k) := by
  intro m
  induction m with
  | zero => intro j h1 h2; rw [bi_nt_end (by omega)] at h2; cases h2
  | succ m ih =>
    intro j h1 h2
    rw [bi_nt_eq (by omega)] at h2
    by_cases r : bi_R (T j)
    · rw [if_pos r] at h2
      obtain ⟨a1, a2, a3, a4⟩ := ih (by omega) h2
      refine ⟨by omega, a2, a3, fun k k1 k2 => ?_⟩
      by_cases e : k = j
      · subst e; exact r
      · exact a4 k (by omega) k2
    · rw [if_neg r] at h2
      cases h2
      exact ⟨Nat.le_refl _, by omega, r, fun k k1 k2 => by omega⟩
theorem bi_nt_some {T : Nat → Int32} {N i : Nat} (hi : i < N) (hr : ¬ bi_R (T i)) : ∀ {d j : Nat}, i - j = d → j ≤ i → (∀ k, j ≤ k → k < i → bi_R (T k)) → bi_nt T N j = some i := by
  intro d
  induction d with
  | zero =>
    intro j h1 h2 h3
    have e : j = i := by omega
    subst e
    rw [bi_nt_eq hi, if_neg hr]
  | succ d ih =>
    intro j h1 h2 h3
    rw [bi_nt_eq (by omega), if_pos (h3 j (Nat.le_refl _) (by omega))]
    exact ih (by omega) (by omega) (fun k k1 k2 => h3 k (by omega) k2)
theorem bi_nt_none {T : Nat → Int32} {N : Nat} : ∀ {d j : Nat}, N - j = d → (∀ k, j ≤ k → k < N → bi_R (T k)) → bi_nt T N j = none := by
  intro d
  induction d with
  | zero => intro j h1 _; exact bi_nt_end (by omega)
  | succ d ih =>
    intro j h1 h2
    rw [bi_nt_eq (by omega), if_pos (h2 j (Nat.le_refl _) (by omega))]
    exact ih (by omega) (fun k k1 k2 => h2 k (by omega) k2)
theorem bi_nt_lt {T : Nat → Int32} {N j : Nat} (hN : N ≤ 32) (n : Nat) (h : bi_nt T N j = some n) : n < 2 ^ 31 := by
  have := bi_nt_val rfl h
  omega
theorem bi_pv_val {T : Nat → Int32} {e : Nat} : ∀ {i : Nat}, bi_pv T i = some e → e < i ∧ ¬ bi_R (T e) ∧ ∀ k, e < k → k < i → bi_R (T k)
  | 0, h => by cases h
  | i + 1, h => by
    simp only [bi_pv] at h
    by_cases r : bi_R (T i)
    · rw [if_pos r] at h
      obtain ⟨a1, a2, a3⟩ := bi_pv_val h
      refine ⟨by omega, a2, fun k k1 k2 => ?_⟩
      by_cases z : k = i
      · subst z; exact r
      · exact a3 k k1 (by omega)
    · rw [if_neg r] at h
      cases h
      exact ⟨by omega, r, fun k k1 k2 => by omega⟩
theorem bi_pv_R {T : Nat → Int32} {i : Nat} (h : bi_R (T i)) : bi_pv T (i + 1) = bi_pv T i := if_pos h
theorem bi_pv_N {T : Nat → Int32} {i : Nat} (h : ¬ bi_R (T i)) : bi_pv T (i + 1) = some i := if_neg h
def bi_bR (c : Int32) : Int32 := if bi_R c then 1 else 0
theorem bi_bR1 {c : Int32} (h : bi_R c) : bi_bR c = 1 := if_pos h
theorem bi_bR0 {c : Int32} (h : ¬ bi_R c) : bi_bR c = 0 := if_neg h
def bi_p0 (c : Int32) : Int32 := if c ≤ 22 then -1 else -2
def bi_LK (T : Nat → Int32) (N i : Nat) (tk pr im pl pk nk : Nat → Int32) : Prop :=
  ∀ k, k < i → tk k = bi_bR (T k) ∧ pr k = bi_p0 (T k) ∧ im k = -1 ∧ pl k = -1 ∧ pk k = bi_o (bi_pv T k) ∧ (¬ bi_R (T k) → nk k = if bi_pv T i = some k then -1 else bi_o (bi_nt T N (k + 1)))
theorem bi_LK_R {T : Nat → Int32} {N i : Nat} {tk pr im pl pk nk : Nat → Int32} (h : bi_LK T N i tk pr im pl pk nk) (hr : bi_R (T i)) : bi_LK T N (i + 1) (upd tk i 1) (upd pr i (bi_p0 (T i))) (upd im i (-1)) (upd pl i (-1)) (upd pk i (bi_o (bi_pv T i))) (upd nk i (-1)) := by
  intro k hk
  by_cases e : k = i
  · subst e
    rw [pk_us, pk_us, pk_us, pk_us, pk_us]
    exact ⟨(bi_bR1 hr).symm, rfl, rfl, rfl, rfl, fun z => absurd hr z⟩
  · rw [pk_un e, pk_un e, pk_un e, pk_un e, pk_un e, pk_un e, bi_pv_R hr]
    exact h k (by omega)
theorem bi_LK_N {T : Nat → Int32} {N i : Nat} {tk pr im pl pk nk nk' : Nat → Int32} (hi : i < N) (h : bi_LK T N i tk pr im pl pk nk) (hr : ¬ bi_R (T i)) (hn : ∀ k, k < i → ¬ bi_pv T i = some k → nk' k = nk k) (hl : ∀ k, bi_pv T i = some k → nk' k = nI i) (hni : nk' i = -1) : bi_LK T N (i + 1) (upd tk i 0) (upd pr i (bi_p0 (T i))) (upd im i (-1)) (upd pl i (-1)) (upd pk i (bi_o (bi_pv T i))) nk' := by
  intro k hk
  rw [bi_pv_N hr]
  by_cases e : k = i
  · subst e
    rw [pk_us, pk_us, pk_us, pk_us, pk_us, if_pos rfl]
    exact ⟨(bi_bR0 hr).symm, rfl, rfl, rfl, rfl, fun _ => hni⟩
  · rw [pk_un e, pk_un e, pk_un e, pk_un e, pk_un e]
    obtain ⟨a1, a2, a3, a4, a5, a6⟩ := h k (by omega)
    refine ⟨a1, a2, a3, a4, a5, fun z => ?_⟩
    rw [if_neg (by intro q; injection q with q; exact e q.symm)]
    by_cases q : bi_pv T i = some k
    · obtain ⟨v1, v2, v3⟩ := bi_pv_val q
      rw [hl k q, bi_nt_some hi hr rfl (by omega) (fun j j1 j2 => v3 j (by omega) j2)]; rfl
    · rw [hn k (by omega) q, a6 z, if_neg q]
theorem bi_LK_end {T : Nat → Int32} {N : Nat} {tk pr im pl pk nk : Nat → Int32} (h : bi_LK T N N tk pr im pl pk nk) {k : Nat} (hk : k < N) (hr : ¬ bi_R (T k)) : nk k = bi_o (bi_nt T N (k + 1)) := by
  obtain ⟨a1, a2, a3, a4, a5, a6⟩ := h k hk
  rw [a6 hr]
  by_cases q : bi_pv T N = some k
  · obtain ⟨v1, v2, v3⟩ := bi_pv_val q
    rw [if_pos q, bi_nt_none rfl (fun j j1 j2 => v3 j (by omega) j2)]; rfl
  · rw [if_neg q]
section
variable {f_cap f_depth f_size f_paragraph f_lines f_resolved f_top f_overflowIsolates f_overflowEmbeddings f_validIsolates f_seqLen f_seqLevel f_runDir f_sos f_eos f_openCount : Int32} {a_text a_breakAfter a_partner a_level a_type a_prevKept a_nextKept a_implicit a_pair a_valid a_taken a_stackLevel a_stackOverride a_stackIsolate a_seq a_kind a_mate a_openAt a_wasMark a_lineFirst a_lineSlot a_lineLv a_order a_place : Nat → Int32}
theorem bx_link50 {post : SX → Prop} {J : Int32 → Int32 →  (Nat → Int32) → (Nat → Int32) → (Nat → Int32) → (Nat → Int32) → (Nat → Int32) → (Nat → Int32) → (Nat → Int32) → (Nat → Int32) → (Nat → Int32) → (Nat → Int32) → (Nat → Int32) → (Nat → Int32) → (Nat → Int32) → (Nat → Int32) → (Nat → Int32) → (Nat → Int32) → (Nat → Int32) → (Nat → Int32) → (Nat → Int32) → (Nat → Int32) → (Nat → Int32) → (Nat → Int32) → (Nat → Int32) → (Nat → Int32) →  Prop} {i : Nat} (l : Option Nat) (z : Int32) (hi : i < 32) (hl : ∀ k, l = some k → k < i) (ht : a_taken i = 0 ∨ a_taken i = 1)
    (k1 : a_taken i = 1 → J (bi_o l) (nI (i + 1)) a_text a_breakAfter a_partner a_level a_type (upd a_prevKept i (bi_o l)) (upd a_nextKept i (-1)) (upd a_implicit i (-1)) (upd a_pair i z) a_valid a_taken a_stackLevel a_stackOverride a_stackIsolate a_seq a_kind a_mate a_openAt a_wasMark a_lineFirst a_lineSlot a_lineLv a_order (upd a_place i (-1)))
    (k0 : a_taken i = 0 → ∀ nk : Nat → Int32, (∀ k, k < i → ¬ l = some k → nk k = a_nextKept k) → (∀ k, l = some k → nk k = nI i) → nk i = -1 → J (nI i) (nI (i + 1)) a_text a_breakAfter a_partner a_level a_type (upd a_prevKept i (bi_o l)) nk (upd a_implicit i (-1)) (upd a_pair i z) a_valid a_taken a_stackLevel a_stackOverride a_stackIsolate a_seq a_kind a_mate a_openAt a_wasMark a_lineFirst a_lineSlot a_lineLv a_order (upd a_place i (-1))) :
    wX_linkRetained_50 post J (bi_o l) (nI i) z (nI i) f_cap f_depth f_size f_paragraph f_lines f_resolved f_top f_overflowIsolates f_overflowEmbeddings f_validIsolates f_seqLen f_seqLevel f_runDir f_sos f_eos f_openCount a_text a_breakAfter a_partner a_level a_type a_prevKept a_nextKept a_implicit a_pair a_valid a_taken a_stackLevel a_stackOverride a_stackIsolate a_seq a_kind a_mate a_openAt a_wasMark a_lineFirst a_lineSlot a_lineLv a_order a_place := by
  have hv := vp_in_nI (n := i) (N := 32) hi (by omega)
  unfold wX_linkRetained_50
  rw [nI_clamp (n := i) (by omega)]
  refine And.intro hv (nm_e (And.intro hv (nm_e (And.intro hv (nm_e (And.intro hv (nm_e (And.intro hv (nm_e (And.intro hv ?_))))))))))
  rcases ht with t | t
  · refine br_t t (bi_o_lt (fun n h => by have := hl n h; omega) (fun e => ?_) (fun n e => ?_))
    · unfold wX_linkRetained_99
      rw [nI_clamp (n := i) (by omega)]
      exact And.intro hv (br_t t (nm_r (nI_1 i) (k0 t _ (fun k hk _ => pk_un (by omega)) (fun k hk => by rw [e] at hk; cases hk) pk_us)))
    · have := hl n e
      subst e
      rw [bi_oS, nI_clamp (n := n) (by omega)]
      refine And.intro (vp_in_nI (by omega) (by omega)) (nm_e ?_)
      unfold wX_linkRetained_99
      rw [nI_clamp (n := i) (by omega)]
      refine And.intro hv (br_t t (nm_r (nI_1 i) (k0 t _ (fun k hk hk2 => ?_) (fun k hk => ?_) ?_)))
      · rw [pk_un (fun z => hk2 (by rw [z])), pk_un (by omega)]
      · cases hk; exact pk_us
      · rw [pk_un (by omega), pk_us]
  · have t' : ¬ a_taken i = 0 := by rw [t]; decide
    refine br_f t' ?_
    unfold wX_linkRetained_99
    rw [nI_clamp (n := i) (by omega)]
    exact And.intro hv (br_f t' (nm_r (nI_1 i) (k1 t)))
theorem bx_link_loop {post : SX → Prop} {N : Nat} (hN : N ≤ 32)
    (hC : ∀ tk pr im pl pk nk : Nat → Int32, bi_LK a_text N N tk pr im pl pk nk → post (f_cap, f_depth, nI N, f_paragraph, f_lines, f_resolved, f_top, f_overflowIsolates, f_overflowEmbeddings, f_validIsolates, f_seqLen, f_seqLevel, f_runDir, f_sos, f_eos, f_openCount, a_text, a_breakAfter, a_partner, a_level, a_type, pk, nk, im, pr, a_valid, tk, a_stackLevel, a_stackOverride, a_stackIsolate, a_seq, a_kind, a_mate, a_openAt, a_wasMark, a_lineFirst, a_lineSlot, a_lineLv, a_order, pl)) :
    ∀ (n i : Nat) (tk pr im pl pk nk : Nat → Int32), i ≤ N → N - i < n → bi_LK a_text N i tk pr im pl pk nk → wX_linkRetained_4 post f_cap f_depth (nI N) f_paragraph f_lines f_resolved f_top f_overflowIsolates f_overflowEmbeddings f_validIsolates f_seqLen f_seqLevel f_runDir f_sos f_eos f_openCount n (bi_o (bi_pv a_text i)) (nI i) a_text a_breakAfter a_partner a_level a_type pk nk im pr a_valid tk a_stackLevel a_stackOverride a_stackIsolate a_seq a_kind a_mate a_openAt a_wasMark a_lineFirst a_lineSlot a_lineLv a_order pl := by
  intro n
  induction n with
  | zero => intro i tk pr im pl pk nk _ h; omega
  | succ n ih =>
    intro i tk pr im pl pk nk hi hn h
    by_cases z : N ≤ i
    · have e : i = N := by omega
      subst e
      exact br_t (nI_le z (by omega)) (hC _ _ _ _ _ _ h)
    · have hv := vp_in_nI (n := i) (N := 32) (by omega) (by omega)
      refine br_f (nI_ge (by omega) (by omega)) ?_
      rw [nI_clamp (n := i) (by omega)]
      have hl : ∀ k, bi_pv a_text i = some k → k < i := fun k hk => (bi_pv_val hk).1
      have go : ∀ tv : Int32, tv = bi_bR (a_text i) → ∀ zz : Int32, zz = bi_p0 (a_text i) → wX_linkRetained_50 post (wX_linkRetained_4 post f_cap f_depth (nI N) f_paragraph f_lines f_resolved f_top f_overflowIsolates f_overflowEmbeddings f_validIsolates f_seqLen f_seqLevel f_runDir f_sos f_eos f_openCount n) (bi_o (bi_pv a_text i)) (nI i) zz (nI i) f_cap f_depth (nI N) f_paragraph f_lines f_resolved f_top f_overflowIsolates f_overflowEmbeddings f_validIsolates f_seqLen f_seqLevel f_runDir f_sos f_eos f_openCount a_text a_breakAfter a_partner a_level a_type pk nk im pr a_valid (upd tk i tv) a_stackLevel a_stackOverride a_stackIsolate a_seq a_kind a_mate a_openAt a_wasMark a_lineFirst a_lineSlot a_lineLv a_order pl := by
        intro tv htv zz hzz
        subst htv; subst hzz
        refine bx_link50 (bi_pv a_text i) _ (by omega) hl ?_ (fun t => ?_) (fun t nk' h1 h2 h3 => ?_)
        · rw [pk_us]
          by_cases r : bi_R (a_text i)
          · exact Or.inr (bi_bR1 r)
          · exact Or.inl (bi_bR0 r)
        · rw [pk_us] at t
          have r : bi_R (a_text i) := by
            by_cases r : bi_R (a_text i)
            · exact r
            · rw [bi_bR0 r] at t; exact absurd t (by decide)
          have := ih (i + 1) _ _ _ _ _ _ (by omega) (by omega) (bi_LK_R h r)
          rw [bi_pv_R r] at this
          rw [bi_bR1 r]
          exact this
        · rw [pk_us] at t
          have r : ¬ bi_R (a_text i) := by
            intro r
            rw [bi_bR1 r] at t; exact absurd t (by decide)
          have := ih (i + 1) _ _ _ _ _ _ (by omega) (by omega) (bi_LK_N (by omega) h r h1 h2 h3)
          rw [bi_pv_N r] at this
          rw [bi_bR0 r]
          exact this
      refine And.intro hv (bx_isR (fun r => And.intro hv (nm_e (And.intro hv (br_c (fun q => ?_) (fun q => ?_))))) (fun r => And.intro hv (nm_e (And.intro hv (br_c (fun q => ?_) (fun q => ?_))))))
      · exact go _ (bi_bR0 r).symm _ (if_pos q).symm
      · exact go _ (bi_bR0 r).symm _ (if_neg q).symm
      · exact go _ (bi_bR1 r).symm _ (if_pos q).symm
      · exact go _ (bi_bR1 r).symm _ (if_neg q).symm
theorem bx_link {post : SX → Prop} {N : Nat} (hN : N ≤ 32)
    (hC : ∀ tk pr im pl pk nk : Nat → Int32, bi_LK a_text N N tk pr im pl pk nk → post (f_cap, f_depth, nI N, f_paragraph, f_lines, f_resolved, f_top, f_overflowIsolates, f_overflowEmbeddings, f_validIsolates, f_seqLen, f_seqLevel, f_runDir, f_sos, f_eos, f_openCount, a_text, a_breakAfter, a_partner, a_level, a_type, pk, nk, im, pr, a_valid, tk, a_stackLevel, a_stackOverride, a_stackIsolate, a_seq, a_kind, a_mate, a_openAt, a_wasMark, a_lineFirst, a_lineSlot, a_lineLv, a_order, pl)) : wpX_linkRetained post (f_cap, f_depth, nI N, f_paragraph, f_lines, f_resolved, f_top, f_overflowIsolates, f_overflowEmbeddings, f_validIsolates, f_seqLen, f_seqLevel, f_runDir, f_sos, f_eos, f_openCount, a_text, a_breakAfter, a_partner, a_level, a_type, a_prevKept, a_nextKept, a_implicit, a_pair, a_valid, a_taken, a_stackLevel, a_stackOverride, a_stackIsolate, a_seq, a_kind, a_mate, a_openAt, a_wasMark, a_lineFirst, a_lineSlot, a_lineLv, a_order, a_place) :=
  Exists.intro 33 (bx_link_loop hN hC 33 0 _ _ _ _ _ _ (by omega) (by omega) (fun k hk => by omega))
end
/-- the successor within a sequence -/
def bi_sc (T : Nat → Int32) (N : Nat) (lv : Nat → Nat) (V : Nat → Int32) (i : Nat) : Option Nat := match (if V i = 0 then none else bi_cl T N i) with
  | some p => some p
  | none => match bi_nt T N (i + 1) with
    | some j => if lv j = lv i then some j else none
    | none => none
theorem bi_sc_a {T : Nat → Int32} {N i p : Nat} {lv : Nat → Nat} {V : Nat → Int32} (hv : ¬ V i = 0) (h : bi_cl T N i = some p) : bi_sc T N lv V i = some p := by
  unfold bi_sc
  rw [if_neg hv, h]
theorem bi_sc_b {T : Nat → Int32} {N i : Nat} {lv : Nat → Nat} {V : Nat → Int32} (hv : V i = 0 ∨ bi_cl T N i = none) : bi_sc T N lv V i = match bi_nt T N (i + 1) with | some j => if lv j = lv i then some j else none | none => none := by
  unfold bi_sc
  have e : (if V i = 0 then none else bi_cl T N i) = none := by
    by_cases z : V i = 0
    · rw [if_pos z]
    · rw [if_neg z]; exact hv.resolve_left z
  rw [e]
theorem bi_sc_cases {T : Nat → Int32} {N i j : Nat} {lv : Nat → Nat} {V : Nat → Int32} (h : bi_sc T N lv V i = some j) : (¬ V i = 0 ∧ bi_cl T N i = some j) ∨ (bi_nt T N (i + 1) = some j ∧ lv j = lv i) := by
  by_cases z : V i = 0
  · rw [bi_sc_b (Or.inl z)] at h
    cases hn : bi_nt T N (i + 1) with
    | none => rw [hn] at h; cases h
    | some j' =>
      rw [hn] at h
      dsimp only at h
      by_cases q : lv j' = lv i
      · rw [if_pos q] at h
        cases h
        exact Or.inr ⟨rfl, q⟩
      · rw [if_neg q] at h; cases h
  · cases hc : bi_cl T N i with
    | some p =>
      rw [bi_sc_a z hc] at h
      cases h
      exact Or.inl ⟨z, rfl⟩
    | none =>
      rw [bi_sc_b (Or.inr hc)] at h
      cases hn : bi_nt T N (i + 1) with
      | none => rw [hn] at h; cases h
      | some j' =>
        rw [hn] at h
        dsimp only at h
        by_cases q : lv j' = lv i
        · rw [if_pos q] at h
          cases h
          exact Or.inr ⟨rfl, q⟩
        · rw [if_neg q] at h; cases h
theorem bi_sc_val {T : Nat → Int32} {N i j : Nat} {lv : Nat → Nat} {V : Nat → Int32} (h : bi_sc T N lv V i = some j) : i < j ∧ j < N ∧ ¬ bi_R (T j) := by
  rcases bi_sc_cases h with ⟨_, h2⟩ | ⟨h1, _⟩
  · obtain ⟨a1, a2, a3⟩ := bi_cl_val h2
    exact ⟨a1, a2, by rw [a3]; decide⟩
  · obtain ⟨a1, a2, a3, a4⟩ := bi_nt_val rfl h1
    exact ⟨by omega, a2, a3⟩
theorem bi_sc_inj {T pt : Nat → Int32} {N i1 i2 j : Nat} {lv : Nat → Nat} {V : Nat → Int32} (hp : bi_PM T N pt) (hV : ∀ k, k < N → ¬ V k = 0 → V k = 1 ∧ bi_I (T k)) (h3 : bi_E3 T N lv V) (r1 : ¬ bi_R (T i1)) (r2 : ¬ bi_R (T i2)) (h1 : bi_sc T N lv V i1 = some j) (h2 : bi_sc T N lv V i2 = some j) : i1 = i2 := by
  have v1 := bi_sc_val h1
  have v2 := bi_sc_val h2
  have ab : ∀ a b, a < j → b < j → ¬ bi_R (T a) → ¬ bi_R (T b) → (¬ V a = 0 ∧ bi_cl T N a = some j) → (bi_nt T N (b + 1) = some j ∧ lv j = lv b) → a = b := by
    intro a b ha hb ra rb h h'
    obtain ⟨n1, n2, n3, n4⟩ := bi_nt_val rfl h'.1
    obtain ⟨w1, w2⟩ := h3 a j (by omega) (hV a (by omega) h.1).1 h.2
    rcases Nat.lt_trichotomy a b with z | z | z
    · have := w2 b z hb rb
      omega
    · exact z
    · exact absurd (n4 a (by omega) ha) ra
  rcases bi_sc_cases h1 with c1 | c1 <;> rcases bi_sc_cases h2 with c2 | c2
  · obtain ⟨a1, a2, a3⟩ := bi_cl_val c1.2
    rcases ((hp j a2).2.1 a3) with ⟨o, o1, o2, o3, o4, o5⟩ | ⟨_, o5⟩
    · rw [o5 i1 v1.1 (hV i1 (by omega) c1.1).2 c1.2, o5 i2 v2.1 (hV i2 (by omega) c2.1).2 c2.2]
    · exact absurd c1.2 (o5 i1 v1.1 (hV i1 (by omega) c1.1).2)
  · exact ab i1 i2 v1.1 v2.1 r1 r2 c1 c2
  · exact (ab i2 i1 v2.1 v1.1 r2 r1 c2 c1).symm
  · obtain ⟨n1, n2, n3, n4⟩ := bi_nt_val rfl c1.1
    obtain ⟨m1, m2, m3, m4⟩ := bi_nt_val rfl c2.1
    rcases Nat.lt_trichotomy i1 i2 with z | z | z
    · exact absurd (n4 i2 (by omega) (by omega)) r2
    · exact z
    · exact absurd (m4 i1 (by omega) (by omega)) r1
section
variable {f_cap f_depth f_size f_paragraph f_lines f_resolved f_top f_overflowIsolates f_overflowEmbeddings f_validIsolates f_seqLen f_seqLevel f_runDir f_sos f_eos f_openCount : Int32} {a_text a_breakAfter a_partner a_level a_type a_prevKept a_nextKept a_implicit a_pair a_valid a_taken a_stackLevel a_stackOverride a_stackIsolate a_seq a_kind a_mate a_openAt a_wasMark a_lineFirst a_lineSlot a_lineLv a_order a_place : Nat → Int32}
theorem bx_succ {post : Int32 → Prop} {N i : Nat} {lv : Nat → Nat} (hN : N ≤ 32) (hi : i < N) (hr : ¬ bi_R (a_text i)) (hp : bi_PM a_text N a_partner) (hV : ∀ k, k < N → ¬ a_valid k = 0 → a_valid k = 1 ∧ bi_I (a_text k))
    (hl : ∀ k, k < N → ¬ bi_R (a_text k) → a_level k = nI (lv k) ∧ lv k < 2 ^ 31) (hn : a_nextKept i = bi_o (bi_nt a_text N (i + 1))) (k : post (bi_o (bi_sc a_text N lv a_valid i))) : wpX_successor post (f_cap, f_depth, f_size, f_paragraph, f_lines, f_resolved, f_top, f_overflowIsolates, f_overflowEmbeddings, f_validIsolates, f_seqLen, f_seqLevel, f_runDir, f_sos, f_eos, f_openCount, a_text, a_breakAfter, a_partner, a_level, a_type, a_prevKept, a_nextKept, a_implicit, a_pair, a_valid, a_taken, a_stackLevel, a_stackOverride, a_stackIsolate, a_seq, a_kind, a_mate, a_openAt, a_wasMark, a_lineFirst, a_lineSlot, a_lineLv, a_order, a_place) (nI i) := by
  have hv := vp_in_nI (n := i) (N := 32) (by omega) (by omega)
  have h25 : (a_valid i = 0 ∨ bi_cl a_text N i = none) → wX_successor_25 post (nI i) f_cap f_depth f_size f_paragraph f_lines f_resolved f_top f_overflowIsolates f_overflowEmbeddings f_validIsolates f_seqLen f_seqLevel f_runDir f_sos f_eos f_openCount a_text a_breakAfter a_partner a_level a_type a_prevKept a_nextKept a_implicit a_pair a_valid a_taken a_stackLevel a_stackOverride a_stackIsolate a_seq a_kind a_mate a_openAt a_wasMark a_lineFirst a_lineSlot a_lineLv a_order a_place := by
    intro h
    rw [bi_sc_b h] at k
    unfold wX_successor_25
    rw [nI_clamp (n := i) (by omega), hn]
    refine And.intro hv (nm_e (bi_o_lt (bi_nt_lt hN) (fun e => ?_) (fun j e => ?_)))
    · rw [e] at k; exact k
    · obtain ⟨n1, n2, n3, n4⟩ := bi_nt_val rfl e
      rw [e] at k ⊢
      dsimp only at k
      rw [bi_oS, nI_clamp (n := j) (by omega), (hl j n2 n3).1, (hl i hi hr).1]
      refine And.intro (vp_in_nI (by omega) (by omega)) (And.intro hv ?_)
      by_cases q : lv j = lv i
      · rw [if_pos q] at k
        exact br_t (by rw [q]) k
      · rw [if_neg q] at k
        exact br_f (fun z => q ((nI_eq (hl j n2 n3).2 (hl i hi hr).2).mp z)) k
  unfold wpX_successor
  refine And.intro hv ?_
  rw [nI_clamp (n := i) (by omega)]
  refine br_c (fun q => h25 (Or.inl q)) (fun q => And.intro hv ?_)
  rw [(hp i hi).1 (hV i hi q).2]
  refine bi_o_lt (bi_cl_lt hN) (fun e => h25 (Or.inr e)) (fun p e => And.intro hv ?_)
  rw [bi_sc_a q e] at k
  rw [e]; exact k
end
section
variable {g_cap g_depth g_len g_para g_count g_e g_way g_sos g_eos g_done : Int32} {b_text b_cut b_pair b_res b_level b_over b_type b_first b_seq b_open b_stLevel b_stOver b_stIso : Nat → Int32}
theorem by_ret1_loop {post : Int32 → Prop} {N i : Nat} (hN : N ≤ 32) (hi : i < N) : ∀ n m, 1 ≤ m → m ≤ N + 1 → N + 1 - m < n → post (bi_o (bi_nt b_text N (i + m))) → wY_retained_2 post (nI i) 1 g_cap g_depth (nI N) g_para g_count g_e g_way g_sos g_eos g_done b_text b_cut b_pair b_res b_level b_over b_type b_first b_seq b_open b_stLevel b_stOver b_stIso n (nI m) := by
  intro n
  induction n with
  | zero => intro m _ _ h; omega
  | succ n ih =>
    intro m h1 h2 h3 k
    by_cases z : N < m
    · rw [bi_nt_end (by omega)] at k
      exact br_t (nI_lt z (by omega)) k
    · have e : nI i + nI m * 1 = nI (i + m) := by rw [Int32.mul_one, nI_add]
      refine br_f (nI_nlt (by omega) (by omega)) ?_
      refine nm_r e (br_f (nI_pos (by omega)) ?_)
      by_cases z2 : N ≤ i + m
      · rw [bi_nt_end z2] at k
        exact br_t (nI_le z2 (by omega)) (nm_r (nI_1 m) (ih (m + 1) (by omega) (by omega) (by omega) (by rw [bi_nt_end (by omega)]; exact k)))
      · refine br_f (nI_ge (by omega) (by omega)) ?_
        rw [nI_clamp (n := i + m) (by omega)]
        rw [bi_nt_eq (by omega)] at k
        refine And.intro (vp_in_nI (by omega) (by omega)) (by_ifR (fun r => ?_) (fun r => ?_))
        · rw [if_neg r] at k; exact k
        · rw [if_pos r] at k
          exact nm_r (nI_1 m) (ih (m + 1) (by omega) (by omega) (by omega) k)
theorem by_ret1 {post : Int32 → Prop} {N i : Nat} (hN : N ≤ 32) (hi : i < N) (k : post (bi_o (bi_nt b_text N (i + 1)))) : wpY_retained post (g_cap, g_depth, nI N, g_para, g_count, g_e, g_way, g_sos, g_eos, g_done, b_text, b_cut, b_pair, b_res, b_level, b_over, b_type, b_first, b_seq, b_open, b_stLevel, b_stOver, b_stIso) (nI i) 1 :=
  Exists.intro 34 (by_ret1_loop hN hi 34 1 (by omega) (by omega) (by omega) k)
theorem by_retm_loop {post : Int32 → Prop} {N i : Nat} (hN : N ≤ 32) (hi : i < N) : ∀ n m, 1 ≤ m → m ≤ N + 1 → N + 1 - m < n → post (bi_o (bi_pv b_text (i + 1 - m))) → wY_retained_2 post (nI i) (-1) g_cap g_depth (nI N) g_para g_count g_e g_way g_sos g_eos g_done b_text b_cut b_pair b_res b_level b_over b_type b_first b_seq b_open b_stLevel b_stOver b_stIso n (nI m) := by
  intro n
  induction n with
  | zero => intro m _ _ h; omega
  | succ n ih =>
    intro m h1 h2 h3 k
    by_cases z : N < m
    · rw [show i + 1 - m = 0 by omega] at k
      exact br_t (nI_lt z (by omega)) k
    · have e : nI i + nI m * (-1) = nI i - nI m := by rw [Int32.mul_neg, Int32.mul_one, ← Int32.sub_eq_add_neg]
      refine br_f (nI_nlt (by omega) (by omega)) ?_
      refine nm_r e ?_
      by_cases z2 : i < m
      · rw [show i + 1 - m = 0 by omega] at k
        exact br_t (pk_sneg (by omega) z2) (nm_r (nI_1 m) (ih (m + 1) (by omega) (by omega) (by omega) (by rw [show i + 1 - (m + 1) = 0 by omega]; exact k)))
      · rw [pk_sub (by omega)]
        refine br_f (nI_pos (by omega)) (br_f (nI_ge (by omega) (by omega)) ?_)
        rw [nI_clamp (n := i - m) (by omega)]
        rw [show i + 1 - m = i - m + 1 by omega] at k
        refine And.intro (vp_in_nI (by omega) (by omega)) (by_ifR (fun r => ?_) (fun r => ?_))
        · rw [bi_pv_N r] at k; exact k
        · rw [bi_pv_R r] at k
          exact nm_r (nI_1 m) (ih (m + 1) (by omega) (by omega) (by omega) (by rw [show i + 1 - (m + 1) = i - m by omega]; exact k))
theorem by_retm {post : Int32 → Prop} {N i : Nat} (hN : N ≤ 32) (hi : i < N) (k : post (bi_o (bi_pv b_text i))) : wpY_retained post (g_cap, g_depth, nI N, g_para, g_count, g_e, g_way, g_sos, g_eos, g_done, b_text, b_cut, b_pair, b_res, b_level, b_over, b_type, b_first, b_seq, b_open, b_stLevel, b_stOver, b_stIso) (nI i) (-1) :=
  Exists.intro 34 (by_retm_loop hN hi 34 1 (by omega) (by omega) (by omega) k)
theorem by_succ {post : Int32 → Prop} {N i : Nat} {lv : Nat → Nat} {V : Nat → Int32} (hN : N ≤ 32) (hi : i < N) (hr : ¬ bi_R (b_text i)) (hV : bi_VO b_text N N V b_over)
    (hl : ∀ k, k < N → ¬ bi_R (b_text k) → b_level k = nI (lv k) ∧ lv k < 2 ^ 31) (k : post (bi_o (bi_sc b_text N lv V i))) : wpY_successor post (g_cap, g_depth, nI N, g_para, g_count, g_e, g_way, g_sos, g_eos, g_done, b_text, b_cut, b_pair, b_res, b_level, b_over, b_type, b_first, b_seq, b_open, b_stLevel, b_stOver, b_stIso) (nI i) := by
  have hv := vp_in_nI (n := i) (N := 32) (by omega) (by omega)
  have h31 : ∀ z : Option Nat, z = (if V i = 0 then none else bi_cl b_text N i) → wY_successor_31 post (nI i) (bi_o z) g_cap g_depth (nI N) g_para g_count g_e g_way g_sos g_eos g_done b_text b_cut b_pair b_res b_level b_over b_type b_first b_seq b_open b_stLevel b_stOver b_stIso := by
    intro z hz
    unfold wY_successor_31
    refine by_ret1 hN hi ?_
    cases z with
    | none =>
      have h : V i = 0 ∨ bi_cl b_text N i = none := by
        by_cases q : V i = 0
        · exact Or.inl q
        · rw [if_neg q] at hz; exact Or.inr hz.symm
      rw [bi_sc_b h] at k
      refine br_t (by decide) (bi_o_lt (bi_nt_lt hN) (fun e => ?_) (fun j e => ?_))
      · rw [e] at k; exact k
      · obtain ⟨n1, n2, n3, n4⟩ := bi_nt_val rfl e
        rw [e] at k ⊢
        dsimp only at k
        rw [bi_oS, nI_clamp (n := j) (by omega), nI_clamp (n := i) (by omega), (hl j n2 n3).1, (hl i hi hr).1]
        refine And.intro (vp_in_nI (by omega) (by omega)) (And.intro hv ?_)
        by_cases q : lv j = lv i
        · rw [if_pos q] at k
          exact br_t (by rw [q]) k
        · rw [if_neg q] at k
          exact br_f (fun z => q ((nI_eq (hl j n2 n3).2 (hl i hi hr).2).mp z)) k
    | some p =>
      have h : ¬ V i = 0 := fun q => by rw [if_pos q] at hz; cases hz
      rw [if_neg h] at hz
      rw [bi_sc_a h hz.symm] at k
      have hv := bi_cl_val hz.symm
      exact br_f (nI_pos (by omega)) k
  unfold wpY_successor
  refine And.intro hv ?_
  rw [nI_clamp (n := i) (by omega)]
  rcases hV.1 i hi with ⟨v1, v2, v3⟩ | ⟨v1, v2, v3⟩
  · refine by_ifI (fun hI => ?_) (fun hI => And.intro hv (br_t v1 (by_closer hN hi ?_)))
    · exact h31 none (by rw [if_pos (v3 hI)])
    · exact h31 _ (by rw [if_neg (by rw [v2 hI]; decide)])
  · refine by_ifI (fun hI => absurd v2 hI) (fun hI => And.intro hv (br_f (by rw [v1]; decide) ?_))
    exact h31 none (by rw [if_pos v3])
theorem by_begins_loop {post : Int32 → Prop} {N i : Nat} {lv : Nat → Nat} {V : Nat → Int32} (hN : N ≤ 32) (hi : i < N) (hV : bi_VO b_text N N V b_over)
    (hl : ∀ k, k < N → ¬ bi_R (b_text k) → b_level k = nI (lv k) ∧ lv k < 2 ^ 31)
    (k1 : ¬ bi_R (b_text i) → (∀ j, j < i → ¬ bi_R (b_text j) → bi_sc b_text N lv V j ≠ some i) → post 1) (k0 : (bi_R (b_text i) ∨ ∃ j, j < i ∧ ¬ bi_R (b_text j) ∧ bi_sc b_text N lv V j = some i) → post 0) :
    ∀ n x, x ≤ i → i - x < n → (∀ j, j < x → ¬ bi_R (b_text j) → bi_sc b_text N lv V j ≠ some i) → wY_begins_2 post (nI i) g_cap g_depth (nI N) g_para g_count g_e g_way g_sos g_eos g_done b_text b_cut b_pair b_res b_level b_over b_type b_first b_seq b_open b_stLevel b_stOver b_stIso n (nI x) := by
  intro n
  induction n with
  | zero => intro x _ h; omega
  | succ n ih =>
    intro x h1 h2 h3
    by_cases z : i ≤ x
    · have e : x = i := by omega
      subst e
      refine br_t (nI_le z (by omega)) ?_
      rw [nI_clamp (n := x) (by omega)]
      exact And.intro (vp_in_nI (by omega) (by omega)) (by_ifR (fun r => k1 r h3) (fun r => k0 (Or.inl r)))
    · refine br_f (nI_ge (by omega) (by omega)) ?_
      rw [nI_clamp (n := x) (by omega)]
      have next : (¬ bi_R (b_text x) → bi_sc b_text N lv V x ≠ some i) → wY_begins_2 post (nI i) g_cap g_depth (nI N) g_para g_count g_e g_way g_sos g_eos g_done b_text b_cut b_pair b_res b_level b_over b_type b_first b_seq b_open b_stLevel b_stOver b_stIso n (nI (x + 1)) := by
        intro q
        refine ih (x + 1) (by omega) (by omega) (fun j hj hr => ?_)
        by_cases e : j = x
        · subst e; exact q hr
        · exact h3 j (by omega) hr
      refine And.intro (vp_in_nI (by omega) (by omega)) (by_ifR (fun r => by_succ hN (by omega) r hV hl ?_) (fun r => nm_r (nI_1 x) (next (fun q => absurd r q))))
      by_cases q : bi_sc b_text N lv V x = some i
      · exact br_t (by rw [q]; rfl) (k0 (Or.inr ⟨x, by omega, r, q⟩))
      · exact br_f (fun w => q ((bi_o_inj (fun m hm => by have := bi_sc_val hm; omega) (by omega)).mp w)) (nm_r (nI_1 x) (next (fun _ => q)))
theorem by_begins {post : Int32 → Prop} {N i : Nat} {lv : Nat → Nat} {V : Nat → Int32} (hN : N ≤ 32) (hi : i < N) (hV : bi_VO b_text N N V b_over)
    (hl : ∀ k, k < N → ¬ bi_R (b_text k) → b_level k = nI (lv k) ∧ lv k < 2 ^ 31)
    (k1 : ¬ bi_R (b_text i) → (∀ j, j < i → ¬ bi_R (b_text j) → bi_sc b_text N lv V j ≠ some i) → post 1) (k0 : (bi_R (b_text i) ∨ ∃ j, j < i ∧ ¬ bi_R (b_text j) ∧ bi_sc b_text N lv V j = some i) → post 0) : wpY_begins post (g_cap, g_depth, nI N, g_para, g_count, g_e, g_way, g_sos, g_eos, g_done, b_text, b_cut, b_pair, b_res, b_level, b_over, b_type, b_first, b_seq, b_open, b_stLevel, b_stOver, b_stIso) (nI i) :=
  Exists.intro 33 (by_begins_loop hN hi hV hl k1 k0 33 0 (by omega) (by omega) (fun j hj => by omega))
end
end
section
/-! sequences: the chain of successors, collected by both sides -/
def bi_CH (T : Nat → Int32) (N : Nat) (lv : Nat → Nat) (V : Nat → Int32) (i L : Nat) (s : Nat → Nat) : Prop :=
  1 ≤ L ∧ s 0 = i ∧ (∀ k, k < L → s k < N ∧ ¬ bi_R (T (s k))) ∧ (∀ k, k + 1 < L → bi_sc T N lv V (s k) = some (s (k + 1))) ∧ bi_sc T N lv V (s (L - 1)) = none
theorem bi_CH_ex {T : Nat → Int32} {N : Nat} {lv : Nat → Nat} {V : Nat → Int32} : ∀ (d i : Nat), N - i ≤ d → i < N → ¬ bi_R (T i) → ∃ L s, bi_CH T N lv V i L s := by
  intro d
  induction d with
  | zero => intro i h1 h2; omega
  | succ d ih =>
    intro i h1 h2 hr
    cases hc : bi_sc T N lv V i with
    | none =>
      refine ⟨1, fun _ => i, Nat.le_refl _, rfl, fun k hk => ⟨h2, hr⟩, fun k hk => by omega, hc⟩
    | some j =>
      obtain ⟨v1, v2, v3⟩ := bi_sc_val hc
      obtain ⟨L, s, c1, c2, c3, c4, c5⟩ := ih j (by omega) v2 v3
      refine ⟨L + 1, fun k => if k = 0 then i else s (k - 1), by omega, if_pos rfl, fun k hk => ?_, fun k hk => ?_, ?_⟩
      · dsimp only
        by_cases z : k = 0
        · rw [if_pos z]; exact ⟨h2, hr⟩
        · rw [if_neg z]; exact c3 (k - 1) (by omega)
      · dsimp only
        rw [if_neg (show ¬ k + 1 = 0 by omega), Nat.add_sub_cancel]
        by_cases z : k = 0
        · rw [if_pos z, z, c2]; exact hc
        · rw [if_neg z]
          have := c4 (k - 1) (by omega)
          rw [show k - 1 + 1 = k by omega] at this
          exact this
      · dsimp only
        rw [if_neg (show ¬ L + 1 - 1 = 0 by omega), show L + 1 - 1 - 1 = L - 1 by omega]
        exact c5
theorem bi_CH_lt {T : Nat → Int32} {N : Nat} {lv : Nat → Nat} {V : Nat → Int32} {i L : Nat} {s : Nat → Nat} (h : bi_CH T N lv V i L s) : ∀ {a b : Nat}, a < b → b < L → s a < s b := by
  intro a b
  induction b with
  | zero => intro h1; omega
  | succ b ih =>
    intro h1 h2
    have v := bi_sc_val (h.2.2.2.1 b h2)
    by_cases z : a = b
    · subst z; exact v.1
    · have := ih (by omega) (by omega)
      omega
theorem bi_CH_inj {T : Nat → Int32} {N : Nat} {lv : Nat → Nat} {V : Nat → Int32} {i L : Nat} {s : Nat → Nat} (h : bi_CH T N lv V i L s) {a b : Nat} (ha : a < L) (hb : b < L) (e : s a = s b) : a = b := by
  rcases Nat.lt_trichotomy a b with z | z | z
  · have := bi_CH_lt h z hb; omega
  · exact z
  · have := bi_CH_lt h z ha; omega
theorem bi_CH_ge {T : Nat → Int32} {N : Nat} {lv : Nat → Nat} {V : Nat → Int32} {i L : Nat} {s : Nat → Nat} (h : bi_CH T N lv V i L s) : ∀ {k : Nat}, k < L → i + k ≤ s k := by
  intro k
  induction k with
  | zero => intro _; rw [h.2.1]; omega
  | succ k ih =>
    intro hk
    have := ih (by omega)
    have := bi_CH_lt h (a := k) (b := k + 1) (by omega) hk
    omega
theorem bi_CH_L {T : Nat → Int32} {N : Nat} {lv : Nat → Nat} {V : Nat → Int32} {i L : Nat} {s : Nat → Nat} (h : bi_CH T N lv V i L s) : i + L ≤ N := by
  have h1 := h.1
  have := bi_CH_ge h (k := L - 1) (by omega)
  have := (h.2.2.1 (L - 1) (by omega)).1
  omega
/-- the m-th member, or none -/
def bi_mb (L : Nat) (s : Nat → Nat) (m : Nat) : Option Nat := if m < L then some (s m) else none
theorem bi_mb_sc {T : Nat → Int32} {N : Nat} {lv : Nat → Nat} {V : Nat → Int32} {i L m : Nat} {s : Nat → Nat} (h : bi_CH T N lv V i L s) (hm : m < L) : bi_sc T N lv V (s m) = bi_mb L s (m + 1) := by
  unfold bi_mb
  by_cases z : m + 1 < L
  · rw [if_pos z]; exact h.2.2.2.1 m z
  · rw [if_neg z, show m = L - 1 by omega]; exact h.2.2.2.2
/-- the direction at an end -/
def bi_bd (P : Nat) (lv : Nat → Nat) (e : Nat) : Option Nat → Nat
  | none => (if P ≤ e then e else P) % 2
  | some j => (if lv j ≤ e then e else lv j) % 2
theorem bi_bd_lt (P : Nat) (lv : Nat → Nat) (e : Nat) (o : Option Nat) : bi_bd P lv e o < 2 := by
  cases o <;> exact Nat.mod_lt _ (by omega)
def bi_af (T : Nat → Int32) (N x : Nat) : Option Nat := if bi_I (T x) then none else bi_nt T N (x + 1)
theorem bi_and1 {n : Nat} (h : n < 2 ^ 31) : nI n &&& 1 = nI (n % 2) := pk_andN (by omega) 1 (by decide)
section
variable {f_cap f_depth f_size f_paragraph f_lines f_resolved f_top f_overflowIsolates f_overflowEmbeddings f_validIsolates f_seqLen f_seqLevel f_runDir f_sos f_eos f_openCount : Int32} {a_text a_breakAfter a_partner a_level a_type a_prevKept a_nextKept a_implicit a_pair a_valid a_taken a_stackLevel a_stackOverride a_stackIsolate a_seq a_kind a_mate a_openAt a_wasMark a_lineFirst a_lineSlot a_lineLv a_order a_place : Nat → Int32}
theorem bx_bound {post : Int32 → Prop} {N P e : Nat} {lv : Nat → Nat} (o : Option Nat) (hN : N ≤ 32) (hP : P < 2 ^ 31) (he : e < 2 ^ 31) (ho : ∀ j, o = some j → j < N ∧ a_level j = nI (lv j) ∧ lv j < 2 ^ 31) (k : post (nI (bi_bd P lv e o))) : wpX_boundary post (f_cap, f_depth, f_size, nI P, f_lines, f_resolved, f_top, f_overflowIsolates, f_overflowEmbeddings, f_validIsolates, f_seqLen, nI e, f_runDir, f_sos, f_eos, f_openCount, a_text, a_breakAfter, a_partner, a_level, a_type, a_prevKept, a_nextKept, a_implicit, a_pair, a_valid, a_taken, a_stackLevel, a_stackOverride, a_stackIsolate, a_seq, a_kind, a_mate, a_openAt, a_wasMark, a_lineFirst, a_lineSlot, a_lineLv, a_order, a_place) (bi_o o) := by
  have h17 : ∀ q, q < 2 ^ 31 → post (nI ((if q ≤ e then e else q) % 2)) → wX_boundary_17 post (nI q) f_cap f_depth f_size (nI P) f_lines f_resolved f_top f_overflowIsolates f_overflowEmbeddings f_validIsolates f_seqLen (nI e) f_runDir f_sos f_eos f_openCount a_text a_breakAfter a_partner a_level a_type a_prevKept a_nextKept a_implicit a_pair a_valid a_taken a_stackLevel a_stackOverride a_stackIsolate a_seq a_kind a_mate a_openAt a_wasMark a_lineFirst a_lineSlot a_lineLv a_order a_place := by
    intro q hq k
    unfold wX_boundary_17
    rw [bi_and1 he, bi_and1 hq]
    by_cases z : q ≤ e
    · rw [if_pos z] at k; exact br_t (nI_le z he) k
    · rw [if_neg z] at k; exact br_f (nI_ge (by omega) hq) k
  unfold wpX_boundary
  refine bi_o_le (fun n h => by have := (ho n h).1; omega) (fun h => ?_) (fun j h => ?_)
  · subst h; exact h17 P hP k
  · subst h
    obtain ⟨a1, a2, a3⟩ := ho j rfl
    refine And.intro (vp_in_nI (by omega) (by omega)) ?_
    rw [bi_oS, nI_clamp (n := j) (by omega), a2]
    exact h17 _ a3 k
theorem bx_coll_end {post : SX → Prop} {N P i L : Nat} {lv s : Nat → Nat} {V : Nat → Int32} (hN : N ≤ 32) (hP : P < 2 ^ 31) (hc : bi_CH a_text N lv V i L s) (hl : ∀ k, k < N → ¬ bi_R (a_text k) → a_level k = nI (lv k) ∧ lv k < 2 ^ 31) (hn : ∀ k, k < N → ¬ bi_R (a_text k) → a_nextKept k = bi_o (bi_nt a_text N (k + 1))) (hk : a_prevKept i = bi_o (bi_pv a_text i))
    (hs : ∀ k, k < L → a_seq k = nI (s k))
    (k : post (f_cap, f_depth, nI N, nI P, f_lines, f_resolved, f_top, f_overflowIsolates, f_overflowEmbeddings, f_validIsolates, nI L, nI (lv i), nI (lv i % 2), nI (bi_bd P lv (lv i) (bi_pv a_text i)), nI (bi_bd P lv (lv i) (bi_af a_text N (s (L - 1)))), f_openCount, a_text, a_breakAfter, a_partner, a_level, a_type, a_prevKept, a_nextKept, a_implicit, a_pair, a_valid, a_taken, a_stackLevel, a_stackOverride, a_stackIsolate, a_seq, a_kind, a_mate, a_openAt, a_wasMark, a_lineFirst, a_lineSlot, a_lineLv, a_order, a_place)) :
    wX_collect_108 post (nI i) f_cap f_depth (nI N) (nI P) f_lines f_resolved f_top f_overflowIsolates f_overflowEmbeddings f_validIsolates (nI L) f_seqLevel f_runDir f_sos f_eos f_openCount a_text a_breakAfter a_partner a_level a_type a_prevKept a_nextKept a_implicit a_pair a_valid a_taken a_stackLevel a_stackOverride a_stackIsolate a_seq a_kind a_mate a_openAt a_wasMark a_lineFirst a_lineSlot a_lineLv a_order a_place := by
  have hL := bi_CH_L hc
  have h1 := hc.1
  obtain ⟨m1, m2⟩ := hc.2.2.1 (L - 1) (by omega)
  obtain ⟨i1, i2⟩ := hc.2.2.1 0 (by omega)
  rw [hc.2.1] at i1 i2
  obtain ⟨l1, l2⟩ := hl i i1 i2
  have hvi := vp_in_nI (n := i) (N := 32) (by omega) (by omega)
  have h143 : wX_collect_143 post (nI i) (bi_o (bi_af a_text N (s (L - 1)))) f_cap f_depth (nI N) (nI P) f_lines f_resolved f_top f_overflowIsolates f_overflowEmbeddings f_validIsolates (nI L) f_seqLevel f_runDir f_sos f_eos f_openCount a_text a_breakAfter a_partner a_level a_type a_prevKept a_nextKept a_implicit a_pair a_valid a_taken a_stackLevel a_stackOverride a_stackIsolate a_seq a_kind a_mate a_openAt a_wasMark a_lineFirst a_lineSlot a_lineLv a_order a_place := by
    unfold wX_collect_143
    rw [nI_clamp (n := i) (by omega), l1, hk]
    refine And.intro hvi (nm_e (nm_r (bi_and1 l2) (And.intro hvi ?_)))
    refine bx_bound (bi_pv a_text i) hN hP l2 (fun j hj => ?_) (bx_bound (bi_af a_text N (s (L - 1))) hN hP l2 (fun j hj => ?_) k)
    · obtain ⟨p1, p2, p3⟩ := bi_pv_val hj
      obtain ⟨q1, q2⟩ := hl j (by omega) p2
      exact ⟨by omega, q1, q2⟩
    · unfold bi_af at hj
      by_cases z : bi_I (a_text (s (L - 1)))
      · rw [if_pos z] at hj; cases hj
      · rw [if_neg z] at hj
        obtain ⟨n1, n2, n3, n4⟩ := bi_nt_val rfl hj
        obtain ⟨q1, q2⟩ := hl j n2 n3
        exact ⟨n2, q1, q2⟩
  unfold bi_af at h143
  unfold wX_collect_108
  rw [bi_p1 (by omega), nI_clamp (n := L - 1) (by omega), hs (L - 1) (by omega)]
  refine And.intro (vp_in_nI (by omega) (by omega)) (nm_e ?_)
  rw [nI_clamp (n := s (L - 1)) (by omega)]
  refine And.intro (vp_in_nI (by omega) (by omega)) (bx_ifI (fun z => And.intro (vp_in_nI (by omega) (by omega)) ?_) (fun z => ?_))
  · rw [if_neg z] at h143
    rw [hn _ m1 m2]; exact h143
  · rw [if_pos z] at h143; exact h143
theorem bx_coll_loop {post : SX → Prop} {N P i L : Nat} {lv s : Nat → Nat} (hN : N ≤ 32) (hP : P < 2 ^ 31) (hc : bi_CH a_text N lv a_valid i L s) (hp : bi_PM a_text N a_partner) (hV : ∀ k, k < N → ¬ a_valid k = 0 → a_valid k = 1 ∧ bi_I (a_text k))
    (hl : ∀ k, k < N → ¬ bi_R (a_text k) → a_level k = nI (lv k) ∧ lv k < 2 ^ 31) (hn : ∀ k, k < N → ¬ bi_R (a_text k) → a_nextKept k = bi_o (bi_nt a_text N (k + 1))) (hk : a_prevKept i = bi_o (bi_pv a_text i))
    (hC : ∀ tk sq kd wm mt : Nat → Int32, (∀ k, k < L → tk (s k) = 1) → (∀ p, (∀ k, k < L → p ≠ s k) → tk p = a_taken p) → (∀ k, k < L → sq k = nI (s k) ∧ kd k = a_type (s k) ∧ wm k = (if a_type (s k) = 8 then 1 else 0) ∧ mt k = -1) →
      post (f_cap, f_depth, nI N, nI P, f_lines, f_resolved, f_top, f_overflowIsolates, f_overflowEmbeddings, f_validIsolates, nI L, nI (lv i), nI (lv i % 2), nI (bi_bd P lv (lv i) (bi_pv a_text i)), nI (bi_bd P lv (lv i) (bi_af a_text N (s (L - 1)))), f_openCount, a_text, a_breakAfter, a_partner, a_level, a_type, a_prevKept, a_nextKept, a_implicit, a_pair, a_valid, tk, a_stackLevel, a_stackOverride, a_stackIsolate, sq, kd, mt, a_openAt, wm, a_lineFirst, a_lineSlot, a_lineLv, a_order, a_place)) :
    ∀ (n m : Nat) (tk sq kd wm mt : Nat → Int32), m ≤ L → L - m < n → (∀ k, k < m → tk (s k) = 1) → (∀ p, (∀ k, k < m → p ≠ s k) → tk p = a_taken p) → (∀ k, k < m → sq k = nI (s k) ∧ kd k = a_type (s k) ∧ wm k = (if a_type (s k) = 8 then 1 else 0) ∧ mt k = -1) →
      wX_collect_7 post (nI i) f_cap f_depth (nI N) (nI P) f_lines f_resolved f_top f_overflowIsolates f_overflowEmbeddings f_validIsolates f_seqLevel f_runDir f_sos f_eos f_openCount n (bi_o (bi_mb L s m)) (nI m) a_text a_breakAfter a_partner a_level a_type a_prevKept a_nextKept a_implicit a_pair a_valid tk a_stackLevel a_stackOverride a_stackIsolate sq kd mt a_openAt wm a_lineFirst a_lineSlot a_lineLv a_order a_place := by
  have hL := bi_CH_L hc
  intro n
  induction n with
  | zero => intro m tk sq kd wm mt _ h; omega
  | succ n ih =>
    intro m tk sq kd wm mt hm hn' h1 h2 h3
    by_cases z : m < L
    · have e : bi_mb L s m = some (s m) := if_pos z
      obtain ⟨m1, m2⟩ := hc.2.2.1 m z
      have hvm := vp_in_nI (n := m) (N := 32) (by omega) (by omega)
      have hvs := vp_in_nI (n := s m) (N := 32) (by omega) (by omega)
      rw [e, bi_oS]
      refine br_f (nI_pos (by omega)) (br_f (nI_ge (by omega) (by omega)) ?_)
      rw [nI_clamp (n := s m) (by omega), nI_clamp (n := m) (by omega)]
      have h78 : ∀ zz : Int32, (zz = 0 ∨ zz = 1) → zz = (if a_type (s m) = 8 then 1 else 0) → wX_collect_78 post (wX_collect_7 post (nI i) f_cap f_depth (nI N) (nI P) f_lines f_resolved f_top f_overflowIsolates f_overflowEmbeddings f_validIsolates f_seqLevel f_runDir f_sos f_eos f_openCount n) (nI i) (nI (s m)) zz (nI m) f_cap f_depth (nI N) (nI P) f_lines f_resolved f_top f_overflowIsolates f_overflowEmbeddings f_validIsolates (nI m) f_seqLevel f_runDir f_sos f_eos f_openCount a_text a_breakAfter a_partner a_level a_type a_prevKept a_nextKept a_implicit a_pair a_valid (upd tk (s m) 1) a_stackLevel a_stackOverride a_stackIsolate (upd sq m (nI (s m))) (upd kd m (a_type (s m))) mt a_openAt wm a_lineFirst a_lineSlot a_lineLv a_order a_place := by
        intro zz hz hzz
        unfold wX_collect_78
        have ez : vp_nar .boolean zz = zz := by rcases hz with q | q <;> rw [q] <;> rfl
        rw [nI_clamp (n := m) (by omega), ez]
        refine And.intro hvm (nm_e (And.intro hvm (nm_e (nm_r (nI_1 m) (bx_succ (lv := lv) hN m1 m2 hp hV hl (hn _ m1 m2) ?_)))))
        rw [bi_mb_sc hc z]
        refine ih (m + 1) _ _ _ _ _ (by omega) (by omega) (fun k hk => ?_) (fun p hp => ?_) (fun k hk => ?_)
        · by_cases q : k = m
          · rw [q, pk_us]
          · rw [pk_un (fun w => q (bi_CH_inj hc (by omega) z w))]
            exact h1 k (by omega)
        · rw [pk_un (hp m (by omega))]
          exact h2 p (fun k hk => hp k (by omega))
        · by_cases q : k = m
          · rw [q, pk_us, pk_us, pk_us, pk_us]
            exact ⟨rfl, rfl, hzz, rfl⟩
          · rw [pk_un q, pk_un q, pk_un q, pk_un q]
            exact h3 k (by omega)
      exact And.intro hvs (nm_e (And.intro hvm (nm_e (And.intro hvs (And.intro hvm (nm_e (And.intro hvs (br_c (fun q => h78 1 (Or.inr rfl) (if_pos q).symm) (fun q => h78 0 (Or.inl rfl) (if_neg q).symm)))))))))
    · have e : bi_mb L s m = none := if_neg z
      have em : m = L := by omega
      subst em
      rw [e, bi_oN]
      exact br_t (by decide) (bx_coll_end hN hP hc hl hn hk (fun k hk => (h3 k hk).1) (hC tk sq kd wm mt h1 h2 h3))
theorem bx_coll {post : SX → Prop} {N P i L : Nat} {lv s : Nat → Nat} (hN : N ≤ 32) (hP : P < 2 ^ 31) (hc : bi_CH a_text N lv a_valid i L s) (hp : bi_PM a_text N a_partner) (hV : ∀ k, k < N → ¬ a_valid k = 0 → a_valid k = 1 ∧ bi_I (a_text k))
    (hl : ∀ k, k < N → ¬ bi_R (a_text k) → a_level k = nI (lv k) ∧ lv k < 2 ^ 31) (hn : ∀ k, k < N → ¬ bi_R (a_text k) → a_nextKept k = bi_o (bi_nt a_text N (k + 1))) (hk : a_prevKept i = bi_o (bi_pv a_text i))
    (hC : ∀ tk sq kd wm mt : Nat → Int32, (∀ k, k < L → tk (s k) = 1) → (∀ p, (∀ k, k < L → p ≠ s k) → tk p = a_taken p) → (∀ k, k < L → sq k = nI (s k) ∧ kd k = a_type (s k) ∧ wm k = (if a_type (s k) = 8 then 1 else 0) ∧ mt k = -1) →
      post (f_cap, f_depth, nI N, nI P, f_lines, f_resolved, f_top, f_overflowIsolates, f_overflowEmbeddings, f_validIsolates, nI L, nI (lv i), nI (lv i % 2), nI (bi_bd P lv (lv i) (bi_pv a_text i)), nI (bi_bd P lv (lv i) (bi_af a_text N (s (L - 1)))), f_openCount, a_text, a_breakAfter, a_partner, a_level, a_type, a_prevKept, a_nextKept, a_implicit, a_pair, a_valid, tk, a_stackLevel, a_stackOverride, a_stackIsolate, sq, kd, mt, a_openAt, wm, a_lineFirst, a_lineSlot, a_lineLv, a_order, a_place)) :
    wpX_collect post (f_cap, f_depth, nI N, nI P, f_lines, f_resolved, f_top, f_overflowIsolates, f_overflowEmbeddings, f_validIsolates, f_seqLen, f_seqLevel, f_runDir, f_sos, f_eos, f_openCount, a_text, a_breakAfter, a_partner, a_level, a_type, a_prevKept, a_nextKept, a_implicit, a_pair, a_valid, a_taken, a_stackLevel, a_stackOverride, a_stackIsolate, a_seq, a_kind, a_mate, a_openAt, a_wasMark, a_lineFirst, a_lineSlot, a_lineLv, a_order, a_place) (nI i) := by
  have h1 := hc.1
  have e : bi_mb L s 0 = some i := by unfold bi_mb; rw [if_pos (by omega), hc.2.1]
  have := bx_coll_loop (f_seqLevel := f_seqLevel) (f_runDir := f_runDir) (f_sos := f_sos) (f_eos := f_eos) hN hP hc hp hV hl hn hk hC (L + 1) 0 a_taken a_seq a_kind a_wasMark a_mate (by omega) (by omega) (fun k hk => by omega) (fun p _ => rfl) (fun k hk => by omega)
  rw [e] at this
  exact Exists.intro (L + 1) this
end
section
variable {g_cap g_depth g_len g_para g_count g_e g_way g_sos g_eos g_done : Int32} {b_text b_cut b_pair b_res b_level b_over b_type b_first b_seq b_open b_stLevel b_stOver b_stIso : Nat → Int32}
theorem by_edge {post : Int32 → Prop} {N P e : Nat} {lv : Nat → Nat} (o : Option Nat) (hN : N ≤ 32) (hP : P < 2 ^ 31) (he : e < 2 ^ 31) (ho : ∀ j, o = some j → j < N ∧ b_level j = nI (lv j) ∧ lv j < 2 ^ 31) (k : post (nI (bi_bd P lv e o))) : wpY_edge post (g_cap, g_depth, g_len, nI P, g_count, nI e, g_way, g_sos, g_eos, g_done, b_text, b_cut, b_pair, b_res, b_level, b_over, b_type, b_first, b_seq, b_open, b_stLevel, b_stOver, b_stIso) (bi_o o) := by
  have h34 : ∀ q, q < 2 ^ 31 → post (nI (q % 2)) → wY_edge_34 post (nI q) g_cap g_depth g_len (nI P) g_count (nI e) g_way g_sos g_eos g_done b_text b_cut b_pair b_res b_level b_over b_type b_first b_seq b_open b_stLevel b_stOver b_stIso := by
    intro q hq k
    unfold wY_edge_34
    have e2 : nI q - nI q / 2 * 2 = nI (q % 2) := pk_rem (d := 2) hq (by omega) (by omega)
    rw [e2]
    refine And.intro (by decide) ?_
    by_cases z : q % 2 = 1
    · rw [z] at k ⊢
      exact br_t (by decide) k
    · have z0 : q % 2 = 0 := by omega
      rw [z0] at k ⊢
      exact br_f (by decide) k
  have h17 : ∀ q, q < 2 ^ 31 → post (nI ((if q ≤ e then e else q) % 2)) → wY_edge_17 post (nI q) g_cap g_depth g_len (nI P) g_count (nI e) g_way g_sos g_eos g_done b_text b_cut b_pair b_res b_level b_over b_type b_first b_seq b_open b_stLevel b_stOver b_stIso := by
    intro q hq k
    unfold wY_edge_17
    by_cases z : q ≤ e
    · rw [if_pos z] at k; exact br_t (nI_le z he) (h34 e he k)
    · rw [if_neg z] at k; exact br_f (nI_ge (by omega) hq) (h34 q hq k)
  unfold wpY_edge
  refine bi_o_le (fun n h => by have := (ho n h).1; omega) (fun h => ?_) (fun j h => ?_)
  · subst h; exact h17 P hP k
  · subst h
    obtain ⟨a1, a2, a3⟩ := ho j rfl
    refine And.intro (vp_in_nI (by omega) (by omega)) ?_
    rw [bi_oS, nI_clamp (n := j) (by omega), a2]
    exact h17 _ a3 k
theorem by_head_end {post : SY → Prop} {N P i L : Nat} {lv s : Nat → Nat} {V : Nat → Int32} (hN : N ≤ 32) (hP : P < 2 ^ 31) (hc : bi_CH b_text N lv V i L s) (hl : ∀ k, k < N → ¬ bi_R (b_text k) → b_level k = nI (lv k) ∧ lv k < 2 ^ 31)
    (hs : ∀ k, k < L → b_seq k = nI (s k))
    (k : ∃ n, wY_sequence_153 post g_cap g_depth (nI N) (nI P) (nI L) (nI (lv i)) (nI (lv i % 2)) (nI (bi_bd P lv (lv i) (bi_pv b_text i))) (nI (bi_bd P lv (lv i) (bi_af b_text N (s (L - 1))))) g_done n 1 b_text b_cut b_pair b_res b_level b_over b_type b_first b_seq b_open b_stLevel b_stOver b_stIso) :
    wY_sequence_59 post (nI i) g_cap g_depth (nI N) (nI P) (nI L) g_e g_way g_sos g_eos g_done b_text b_cut b_pair b_res b_level b_over b_type b_first b_seq b_open b_stLevel b_stOver b_stIso := by
  have hL := bi_CH_L hc
  have h1 := hc.1
  obtain ⟨m1, m2⟩ := hc.2.2.1 (L - 1) (by omega)
  obtain ⟨i1, i2⟩ := hc.2.2.1 0 (by omega)
  rw [hc.2.1] at i1 i2
  obtain ⟨l1, l2⟩ := hl i i1 i2
  have hvi := vp_in_nI (n := i) (N := 32) (by omega) (by omega)
  have h129 : wY_sequence_129 post (bi_o (bi_pv b_text i)) (bi_o (bi_af b_text N (s (L - 1)))) g_cap g_depth (nI N) (nI P) (nI L) (nI (lv i)) (nI (lv i % 2)) g_sos g_eos g_done b_text b_cut b_pair b_res b_level b_over b_type b_first b_seq b_open b_stLevel b_stOver b_stIso := by
    unfold wY_sequence_129
    refine by_edge (bi_pv b_text i) hN hP l2 (fun j hj => ?_) (by_edge (bi_af b_text N (s (L - 1))) hN hP l2 (fun j hj => ?_) k)
    · obtain ⟨p1, p2, p3⟩ := bi_pv_val hj
      obtain ⟨q1, q2⟩ := hl j (by omega) p2
      exact ⟨by omega, q1, q2⟩
    · unfold bi_af at hj
      by_cases z : bi_I (b_text (s (L - 1)))
      · rw [if_pos z] at hj; cases hj
      · rw [if_neg z] at hj
        obtain ⟨n1, n2, n3, n4⟩ := bi_nt_val rfl hj
        obtain ⟨q1, q2⟩ := hl j n2 n3
        exact ⟨n2, q1, q2⟩
  have h84 : wY_sequence_84 post (nI i) (nI (lv i % 2)) g_cap g_depth (nI N) (nI P) (nI L) (nI (lv i)) g_way g_sos g_eos g_done b_text b_cut b_pair b_res b_level b_over b_type b_first b_seq b_open b_stLevel b_stOver b_stIso := by
    unfold wY_sequence_84
    rw [bi_p1 (by omega), nI_clamp (n := L - 1) (by omega), hs (L - 1) (by omega)]
    refine And.intro (vp_in_nI (by omega) (by omega)) (nm_e (by_retm hN i1 ?_))
    rw [nI_clamp (n := s (L - 1)) (by omega)]
    unfold bi_af at h129
    refine And.intro (vp_in_nI (by omega) (by omega)) (by_ifI (fun z => by_ret1 hN m1 ?_) (fun z => ?_))
    · rw [if_neg z] at h129; exact h129
    · rw [if_pos z] at h129; exact h129
  unfold wY_sequence_59
  rw [nI_clamp (n := i) (by omega), l1]
  refine And.intro hvi (nm_e (And.intro (by decide) ?_))
  have e2 : nI (lv i) - nI (lv i) / 2 * 2 = nI (lv i % 2) := pk_rem (d := 2) l2 (by omega) (by omega)
  rw [e2]
  by_cases z : lv i % 2 = 0
  · rw [z] at h84 ⊢
    exact br_t (by decide) h84
  · have z1 : lv i % 2 = 1 := by omega
    rw [z1] at h84 ⊢
    exact br_f (by decide) h84
theorem by_head_loop {post : SY → Prop} {N P i L : Nat} {lv s : Nat → Nat} {V : Nat → Int32} (hN : N ≤ 32) (hP : P < 2 ^ 31) (hc : bi_CH b_text N lv V i L s) (hV : bi_VO b_text N N V b_over) (hl : ∀ k, k < N → ¬ bi_R (b_text k) → b_level k = nI (lv k) ∧ lv k < 2 ^ 31)
    (hC : ∀ sq op : Nat → Int32, (∀ k, k < L → sq k = nI (s k) ∧ op k = 0) → ∃ n, wY_sequence_153 post g_cap g_depth (nI N) (nI P) (nI L) (nI (lv i)) (nI (lv i % 2)) (nI (bi_bd P lv (lv i) (bi_pv b_text i))) (nI (bi_bd P lv (lv i) (bi_af b_text N (s (L - 1))))) g_done n 1 b_text b_cut b_pair b_res b_level b_over b_type b_first sq op b_stLevel b_stOver b_stIso) :
    ∀ (n m : Nat) (sq op : Nat → Int32), m ≤ L → L - m < n → (∀ k, k < m → sq k = nI (s k) ∧ op k = 0) → wY_sequence_7 post (nI i) g_cap g_depth (nI N) (nI P) g_e g_way g_sos g_eos g_done n (bi_o (bi_mb L s m)) (nI m) b_text b_cut b_pair b_res b_level b_over b_type b_first sq op b_stLevel b_stOver b_stIso := by
  have hL := bi_CH_L hc
  intro n
  induction n with
  | zero => intro m sq op _ h; omega
  | succ n ih =>
    intro m sq op hm hn' h3
    by_cases z : m < L
    · have e : bi_mb L s m = some (s m) := if_pos z
      obtain ⟨m1, m2⟩ := hc.2.2.1 m z
      have hvm := vp_in_nI (n := m) (N := 32) (by omega) (by omega)
      rw [e, bi_oS]
      refine br_f (nI_pos (by omega)) (br_f (fun q => by have := (bi_32le (n := m) (by omega)).mp q; omega) ?_)
      rw [nI_clamp (n := m) (by omega)]
      refine And.intro hvm (nm_e (And.intro hvm (nm_e (nm_r (nI_1 m) (by_succ (lv := lv) (V := V) hN m1 m2 hV hl ?_)))))
      rw [bi_mb_sc hc z]
      refine ih (m + 1) _ _ (by omega) (by omega) (fun k hk => ?_)
      by_cases q : k = m
      · rw [q, pk_us, pk_us]; exact ⟨rfl, rfl⟩
      · rw [pk_un q, pk_un q]; exact h3 k (by omega)
    · have e : bi_mb L s m = none := if_neg z
      have em : m = L := by omega
      subst em
      rw [e, bi_oN]
      exact br_t (by decide) (by_head_end hN hP hc hl (fun k hk => (h3 k hk).1) (hC sq op h3))
theorem by_head {post : SY → Prop} {N P i L : Nat} {lv s : Nat → Nat} {V : Nat → Int32} (hN : N ≤ 32) (hP : P < 2 ^ 31) (hc : bi_CH b_text N lv V i L s) (hV : bi_VO b_text N N V b_over) (hl : ∀ k, k < N → ¬ bi_R (b_text k) → b_level k = nI (lv k) ∧ lv k < 2 ^ 31)
    (hC : ∀ sq op : Nat → Int32, (∀ k, k < L → sq k = nI (s k) ∧ op k = 0) → ∃ n, wY_sequence_153 post g_cap g_depth (nI N) (nI P) (nI L) (nI (lv i)) (nI (lv i % 2)) (nI (bi_bd P lv (lv i) (bi_pv b_text i))) (nI (bi_bd P lv (lv i) (bi_af b_text N (s (L - 1))))) g_done n 1 b_text b_cut b_pair b_res b_level b_over b_type b_first sq op b_stLevel b_stOver b_stIso) :
    wpY_sequence post (g_cap, g_depth, nI N, nI P, g_count, g_e, g_way, g_sos, g_eos, g_done, b_text, b_cut, b_pair, b_res, b_level, b_over, b_type, b_first, b_seq, b_open, b_stLevel, b_stOver, b_stIso) (nI i) := by
  have h1 := hc.1
  have e : bi_mb L s 0 = some i := by unfold bi_mb; rw [if_pos (by omega), hc.2.1]
  have := by_head_loop (g_e := g_e) (g_way := g_way) (g_sos := g_sos) (g_eos := g_eos) hN hP hc hV hl hC (L + 1) 0 b_seq b_open (by omega) (by omega) (fun k hk => by omega)
  rw [e] at this
  exact Exists.intro (L + 1) this
end
end
section
/-! the weak rules, plain; a pass that has come to i -/
def bi_MX (L i : Nat) (G k kd : Nat → Int32) : Prop := ∀ j, j < L → kd j = if j < i then G j else k j
theorem bi_MX_0 {L : Nat} {G k kd : Nat → Int32} (h : ∀ j, j < L → kd j = k j) : bi_MX L 0 G k kd := fun j hj => by rw [if_neg (by omega)]; exact h j hj
theorem bi_MX_lo {L i j : Nat} {G k kd : Nat → Int32} (h : bi_MX L i G k kd) (hj : j < L) (hi : j < i) : kd j = G j := by rw [h j hj, if_pos hi]
theorem bi_MX_hi {L i j : Nat} {G k kd : Nat → Int32} (h : bi_MX L i G k kd) (hj : j < L) (hi : i ≤ j) : kd j = k j := by rw [h j hj, if_neg (by omega)]
theorem bi_MX_u {L i : Nat} {G k kd : Nat → Int32} {v : Int32} (h : bi_MX L i G k kd) (hv : v = G i) : bi_MX L (i + 1) G k (upd kd i v) := by
  intro j hj
  by_cases e : j = i
  · rw [e, pk_us, if_pos (by omega)]; exact hv
  · rw [pk_un e, h j hj]
    by_cases z : j < i
    · rw [if_pos z, if_pos (by omega)]
    · rw [if_neg z, if_neg (by omega)]
theorem bi_MX_s {L i : Nat} {G k kd : Nat → Int32} (h : bi_MX L i G k kd) (hv : i < L → k i = G i) : bi_MX L (i + 1) G k kd := by
  intro j hj
  by_cases e : j = i
  · rw [e, bi_MX_hi h (by omega) (Nat.le_refl _), if_pos (by omega)]; exact hv (by omega)
  · rw [h j hj]
    by_cases z : j < i
    · rw [if_pos z, if_pos (by omega)]
    · rw [if_neg z, if_neg (by omega)]
theorem bi_MX_e {L : Nat} {G k kd : Nat → Int32} (h : bi_MX L L G k kd) : ∀ j, j < L → kd j = G j := fun j hj => bi_MX_lo h hj hj
def bi_F1 (so : Int32) (k : Nat → Int32) : Nat → Int32
  | 0 => if k 0 = 8 then so else k 0
  | j + 1 => if k (j + 1) = 8 then (if bi_F1 so k j < 19 then bi_F1 so k j else 13) else k (j + 1)
def bi_S2 (k : Nat → Int32) : Nat → Int32
  | 0 => -1
  | j + 1 => if 2 < k j then bi_S2 k j else k j
def bi_F2 (k : Nat → Int32) (j : Nat) : Int32 := if k j = 3 ∧ bi_S2 k j = 2 then 6 else k j
def bi_F3 (k : Nat → Int32) (j : Nat) : Int32 := if k j = 2 then 1 else k j
def bi_F4 (L : Nat) (k : Nat → Int32) : Nat → Int32
  | 0 => k 0
  | j + 1 => if j + 2 < L ∧ bi_F4 L k j = 3 ∧ k (j + 2) = 3 ∧ (k (j + 1) = 4 ∨ k (j + 1) = 7) then 3 else if j + 2 < L ∧ bi_F4 L k j = 6 ∧ k (j + 2) = 6 ∧ k (j + 1) = 7 then 6 else k (j + 1)
def bi_rf (k : Nat → Int32) (L : Nat) : Nat → Int32
  | 0 => 0
  | f + 1 => if k (L - (f + 1)) = 5 then bi_rf k L f else k (L - (f + 1))
def bi_r5 (k : Nat → Int32) (L j : Nat) : Int32 := bi_rf k L (L - j)
def bi_l5 (k : Nat → Int32) : Nat → Int32
  | 0 => 0
  | j + 1 => if k j = 5 then bi_l5 k j else k j
def bi_F5 (L : Nat) (k : Nat → Int32) (j : Nat) : Int32 := if k j = 5 ∧ (bi_l5 k j = 3 ∨ bi_r5 k L j = 3) then 3 else k j
def bi_F6 (k : Nat → Int32) (j : Nat) : Int32 := if k j = 4 ∨ k j = 5 ∨ k j = 7 then 13 else k j
def bi_S7 (so : Int32) (k : Nat → Int32) : Nat → Int32
  | 0 => so
  | j + 1 => if k j = 0 ∨ k j = 1 then k j else bi_S7 so k j
def bi_F7 (so : Int32) (k : Nat → Int32) (j : Nat) : Int32 := if k j = 3 ∧ bi_S7 so k j = 0 then 0 else k j
theorem bi_r5_end {k : Nat → Int32} {L j : Nat} (h : L ≤ j) : bi_r5 k L j = 0 := by
  unfold bi_r5
  rw [show L - j = 0 by omega]; rfl
theorem bi_r5_eq {k : Nat → Int32} {L j : Nat} (h : j < L) : bi_r5 k L j = if k j = 5 then bi_r5 k L (j + 1) else k j := by
  unfold bi_r5
  have e : L - j = L - (j + 1) + 1 := by omega
  rw [e]
  have e2 : L - (L - (j + 1) + 1) = j := by omega
  rw [bi_rf, e2]
theorem bi_F5_n {L : Nat} {k : Nat → Int32} {j : Nat} (h : ¬ k j = 5) : bi_F5 L k j = k j := if_neg (fun z => h z.1)
theorem bi_F5_5 {L : Nat} {k : Nat → Int32} {j : Nat} (h : k j = 5) : bi_F5 L k j = if bi_l5 k j = 3 ∨ bi_r5 k L j = 3 then 3 else 5 := by
  unfold bi_F5
  by_cases z : bi_l5 k j = 3 ∨ bi_r5 k L j = 3
  · rw [if_pos z, if_pos ⟨h, z⟩]
  · rw [if_neg z, if_neg (fun w => z w.2)]; exact h
/-- the value before i decides as the plain left value does -/
theorem bi_F5_prev {L i : Nat} {k : Nat → Int32} (hi : i < L) (h : k i = 5) : ((0 < i ∧ bi_F5 L k (i - 1) = 3) ∨ bi_r5 k L i = 3) ↔ (bi_l5 k i = 3 ∨ bi_r5 k L i = 3) := by
  by_cases z : i = 0
  · subst z
    have : ¬ bi_l5 k 0 = 3 := by unfold bi_l5; decide
    constructor
    · rintro (q | q)
      · omega
      · exact Or.inr q
    · rintro (q | q)
      · exact absurd q this
      · exact Or.inr q
  · obtain ⟨j, rfl⟩ : ∃ j, i = j + 1 := ⟨i - 1, by omega⟩
    rw [Nat.add_sub_cancel]
    by_cases q : k j = 5
    · have e1 : bi_l5 k (j + 1) = bi_l5 k j := if_pos q
      have e2 : bi_r5 k L j = bi_r5 k L (j + 1) := by rw [bi_r5_eq (by omega), if_pos q]
      rw [bi_F5_5 q, e1, e2]
      by_cases w : bi_l5 k j = 3 ∨ bi_r5 k L (j + 1) = 3
      · rw [if_pos w]
        exact ⟨fun _ => w, fun _ => Or.inl ⟨by omega, rfl⟩⟩
      · rw [if_neg w]
        exact ⟨fun v => v.elim (fun v => absurd v.2 (by decide)) Or.inr, fun v => absurd v w⟩
    · have e1 : bi_l5 k (j + 1) = k j := if_neg q
      rw [bi_F5_n q, e1]
      exact ⟨fun v => v.elim (fun v => Or.inl v.2) Or.inr, fun v => v.elim (fun v => Or.inl ⟨by omega, v⟩) Or.inr⟩
theorem bi_run5 {L i e : Nat} {k : Nat → Int32} (he : e ≤ L) (hr : ∀ j, i ≤ j → j < e → k j = 5) : ∀ {j : Nat}, i ≤ j → j ≤ e → bi_l5 k j = bi_l5 k i ∧ bi_r5 k L j = bi_r5 k L i := by
  intro j
  induction j with
  | zero => intro h1 _; have : i = 0 := by omega
            subst this; exact ⟨rfl, rfl⟩
  | succ j ih =>
    intro h1 h2
    by_cases z : i = j + 1
    · subst z; exact ⟨rfl, rfl⟩
    · obtain ⟨a, b⟩ := ih (by omega) (by omega)
      have q := hr j (by omega) (by omega)
      have e1 : bi_l5 k (j + 1) = bi_l5 k j := if_pos q
      have e2 : bi_r5 k L j = bi_r5 k L (j + 1) := by rw [bi_r5_eq (by omega), if_pos q]
      exact ⟨by rw [e1, a], by rw [← e2, b]⟩
theorem bi_S7_F6 (so : Int32) (k : Nat → Int32) : ∀ j, bi_S7 so (bi_F6 k) j = bi_S7 so k j
  | 0 => rfl
  | j + 1 => by
    simp only [bi_S7]
    rw [bi_S7_F6 so k j]
    unfold bi_F6
    by_cases z : k j = 4 ∨ k j = 5 ∨ k j = 7
    · rw [if_pos z]
      have n1 : ¬ ((13 : Int32) = 0 ∨ (13 : Int32) = 1) := by decide
      have n2 : ¬ (k j = 0 ∨ k j = 1) := by rcases z with z | z | z <;> rw [z] <;> decide
      rw [if_neg n1, if_neg n2]
    · rw [if_neg z]
/-! ranges -/
theorem bi_k0_c {x : Int32} (h : x = 0 ∨ x = 1 ∨ x = 3 ∨ x = 6 ∨ x = 13) : bi_k0 x := by rcases h with h | h | h | h | h <;> rw [h] <;> exact ⟨by decide, by decide, by decide⟩
def bi_kr (x : Int32) : Prop := bi_k0 x ∧ ¬ x = 8 ∧ ¬ x = 2 ∧ ¬ x = 4 ∧ ¬ x = 5 ∧ ¬ x = 7
theorem bi_F1_r {so : Int32} {k : Nat → Int32} {L : Nat} (hs : so = 0 ∨ so = 1) (h : ∀ j, j < L → bi_k0 (k j)) : ∀ j, j < L → bi_k0 (bi_F1 so k j) ∧ ¬ bi_F1 so k j = 8 := by
  intro j
  induction j with
  | zero =>
    intro hj
    simp only [bi_F1]
    by_cases z : k 0 = 8
    · rw [if_pos z]
      rcases hs with q | q <;> rw [q]
      · exact ⟨bi_k0_c (Or.inl rfl), by decide⟩
      · exact ⟨bi_k0_c (Or.inr (Or.inl rfl)), by decide⟩
    · rw [if_neg z]; exact ⟨h 0 hj, z⟩
  | succ j ih =>
    intro hj
    simp only [bi_F1]
    by_cases z : k (j + 1) = 8
    · rw [if_pos z]
      by_cases q : bi_F1 so k j < 19
      · rw [if_pos q]; exact ih (by omega)
      · rw [if_neg q]; exact ⟨bi_k0_c (by decide), by decide⟩
    · rw [if_neg z]; exact ⟨h _ hj, z⟩
theorem bi_F2_r {k : Nat → Int32} {j : Nat} (h : bi_k0 (k j) ∧ ¬ k j = 8) : bi_k0 (bi_F2 k j) ∧ ¬ bi_F2 k j = 8 := by
  unfold bi_F2
  by_cases z : k j = 3 ∧ bi_S2 k j = 2
  · rw [if_pos z]; exact ⟨bi_k0_c (by decide), by decide⟩
  · rw [if_neg z]; exact h
theorem bi_F3_r {k : Nat → Int32} {j : Nat} (h : bi_k0 (k j) ∧ ¬ k j = 8) : bi_k0 (bi_F3 k j) ∧ ¬ bi_F3 k j = 8 ∧ ¬ bi_F3 k j = 2 := by
  unfold bi_F3
  by_cases z : k j = 2
  · rw [if_pos z]; exact ⟨bi_k0_c (by decide), by decide, by decide⟩
  · rw [if_neg z]; exact ⟨h.1, h.2, z⟩
theorem bi_F4_r {L : Nat} {k : Nat → Int32} (h : ∀ j, j < L → bi_k0 (k j) ∧ ¬ k j = 8 ∧ ¬ k j = 2) : ∀ j, j < L → bi_k0 (bi_F4 L k j) ∧ ¬ bi_F4 L k j = 8 ∧ ¬ bi_F4 L k j = 2 := by
  intro j hj
  cases j with
  | zero => exact h 0 hj
  | succ j =>
    simp only [bi_F4]
    split
    · exact ⟨bi_k0_c (by decide), by decide, by decide⟩
    · split
      · exact ⟨bi_k0_c (by decide), by decide, by decide⟩
      · exact h _ hj
theorem bi_F5_r {L : Nat} {k : Nat → Int32} {j : Nat} (h : bi_k0 (k j) ∧ ¬ k j = 8 ∧ ¬ k j = 2) : bi_k0 (bi_F5 L k j) ∧ ¬ bi_F5 L k j = 8 ∧ ¬ bi_F5 L k j = 2 := by
  unfold bi_F5
  split
  · exact ⟨bi_k0_c (by decide), by decide, by decide⟩
  · exact h
theorem bi_F6_r {k : Nat → Int32} {j : Nat} (h : bi_k0 (k j) ∧ ¬ k j = 8 ∧ ¬ k j = 2) : bi_kr (bi_F6 k j) := by
  unfold bi_F6
  by_cases z : k j = 4 ∨ k j = 5 ∨ k j = 7
  · rw [if_pos z]; exact ⟨bi_k0_c (by decide), by decide, by decide, by decide, by decide, by decide⟩
  · rw [if_neg z]; exact ⟨h.1, h.2.1, h.2.2, fun w => z (Or.inl w), fun w => z (Or.inr (Or.inl w)), fun w => z (Or.inr (Or.inr w))⟩
theorem bi_F7_r {so : Int32} {k : Nat → Int32} {j : Nat} (h : bi_kr (k j)) : bi_kr (bi_F7 so k j) := by
  unfold bi_F7
  split
  · exact ⟨bi_k0_c (by decide), by decide, by decide, by decide, by decide, by decide⟩
  · exact h
/-- what the weak rules make of the types -/
def bi_W (so : Int32) (L : Nat) (k : Nat → Int32) : Nat → Int32 := bi_F7 so (bi_F6 (bi_F5 L (bi_F4 L (bi_F3 (bi_F2 (bi_F1 so k))))))
theorem bi_W_r {so : Int32} {L : Nat} {k : Nat → Int32} (hs : so = 0 ∨ so = 1) (h : ∀ j, j < L → bi_k0 (k j)) : ∀ j, j < L → bi_kr (bi_W so L k j) := fun j hj =>
  bi_F7_r (bi_F6_r (bi_F5_r (bi_F4_r (fun j hj => bi_F3_r (bi_F2_r (bi_F1_r hs h j hj))) j hj)))
end
section
/-! the component's weak rules -/
def bi_fl (k : Nat → Int32) (a b : Nat) (v : Int32) : Nat → Int32 := fun j => if a ≤ j ∧ j < b then v else k j
theorem bi_fl_0 {k : Nat → Int32} {a b : Nat} {v : Int32} (h : b ≤ a) : bi_fl k a b v = k := by
  funext j
  exact if_neg (by omega)
theorem bi_fl_s {k : Nat → Int32} {a b : Nat} {v : Int32} (h : a < b) : bi_fl (upd k a v) (a + 1) b v = bi_fl k a b v := by
  funext j
  unfold bi_fl
  by_cases z : a + 1 ≤ j ∧ j < b
  · rw [if_pos z, if_pos (by omega)]
  · rw [if_neg z]
    by_cases e : j = a
    · rw [e, pk_us, if_pos (by omega)]
    · rw [pk_un e, if_neg (by omega)]
theorem bi_fl_in {k : Nat → Int32} {a b j : Nat} {v : Int32} (h1 : a ≤ j) (h2 : j < b) : bi_fl k a b v j = v := if_pos ⟨h1, h2⟩
theorem bi_fl_out {k : Nat → Int32} {a b j : Nat} {v : Int32} (h : ¬ (a ≤ j ∧ j < b)) : bi_fl k a b v j = k j := if_neg h
section
variable {f_cap f_depth f_size f_paragraph f_lines f_resolved f_top f_overflowIsolates f_overflowEmbeddings f_validIsolates f_seqLen f_seqLevel f_runDir f_sos f_eos f_openCount : Int32} {a_text a_breakAfter a_partner a_level a_type a_prevKept a_nextKept a_implicit a_pair a_valid a_taken a_stackLevel a_stackOverride a_stackIsolate a_seq a_kind a_mate a_openAt a_wasMark a_lineFirst a_lineSlot a_lineLv a_order a_place : Nat → Int32}
theorem bx_marks_loop {post : SX → Prop} {L : Nat} {k : Nat → Int32} (hL : L ≤ 32) (hC : ∀ kd : Nat → Int32, (∀ j, j < L → kd j = bi_F1 f_sos k j) → post (f_cap, f_depth, f_size, f_paragraph, f_lines, f_resolved, f_top, f_overflowIsolates, f_overflowEmbeddings, f_validIsolates, nI L, f_seqLevel, f_runDir, f_sos, f_eos, f_openCount, a_text, a_breakAfter, a_partner, a_level, a_type, a_prevKept, a_nextKept, a_implicit, a_pair, a_valid, a_taken, a_stackLevel, a_stackOverride, a_stackIsolate, a_seq, kd, a_mate, a_openAt, a_wasMark, a_lineFirst, a_lineSlot, a_lineLv, a_order, a_place)) :
    ∀ (n i : Nat) (kd : Nat → Int32), i ≤ L → L - i < n → bi_MX L i (bi_F1 f_sos k) k kd → wX_resolveMarks_2 post f_cap f_depth f_size f_paragraph f_lines f_resolved f_top f_overflowIsolates f_overflowEmbeddings f_validIsolates (nI L) f_seqLevel f_runDir f_sos f_eos f_openCount n (nI i) a_text a_breakAfter a_partner a_level a_type a_prevKept a_nextKept a_implicit a_pair a_valid a_taken a_stackLevel a_stackOverride a_stackIsolate a_seq kd a_mate a_openAt a_wasMark a_lineFirst a_lineSlot a_lineLv a_order a_place := by
  intro n
  induction n with
  | zero => intro i kd _ h; omega
  | succ n ih =>
    intro i kd hi hn h
    by_cases z : L ≤ i
    · have e : i = L := by omega
      subst e
      exact br_t (nI_le z (by omega)) (hC kd (bi_MX_e h))
    · have hv := vp_in_nI (n := i) (N := 32) (by omega) (by omega)
      refine br_f (nI_ge (by omega) (by omega)) ?_
      rw [nI_clamp (n := i) (by omega)]
      have hki := bi_MX_hi h (by omega) (Nat.le_refl i)
      refine And.intro hv (br_c (fun q => ?_) (fun q => ?_))
      · rw [hki] at q
        by_cases i0 : i = 0
        · subst i0
          refine br_t rfl (And.intro hv (nm_e (nm_r (nI_1 0) (ih 1 _ (by omega) (by omega) (bi_MX_u h ?_)))))
          simp only [bi_F1]; rw [if_pos q]
        · obtain ⟨j, rfl⟩ : ∃ j, i = j + 1 := ⟨i - 1, by omega⟩
          have hkj := bi_MX_lo h (show j < L by omega) (by omega)
          have hvj := vp_in_nI (n := j) (N := 32) (by omega) (by omega)
          refine br_f (nI_ne0 (by omega) (by omega)) ?_
          rw [nI_pred, nI_clamp (n := j) (by omega), hkj]
          refine And.intro hvj (br_c (fun w => And.intro hvj (And.intro hv (nm_e (nm_r (nI_1 (j + 1)) (ih (j + 1 + 1) _ (by omega) (by omega) (bi_MX_u h ?_)))))) (fun w => And.intro hv (nm_e (nm_r (nI_1 (j + 1)) (ih (j + 1 + 1) _ (by omega) (by omega) (bi_MX_u h ?_))))))
          · simp only [bi_F1]; rw [if_pos q, if_pos w]
          · simp only [bi_F1]; rw [if_pos q, if_neg w]
      · rw [hki] at q
        refine nm_r (nI_1 i) (ih (i + 1) kd (by omega) (by omega) (bi_MX_s h (fun _ => ?_)))
        cases i with
        | zero => simp only [bi_F1]; rw [if_neg q]
        | succ j => simp only [bi_F1]; rw [if_neg q]
theorem bx_marks {post : SX → Prop} {L : Nat} {k : Nat → Int32} (hL : L ≤ 32) (hk : ∀ j, j < L → a_kind j = k j) (hC : ∀ kd : Nat → Int32, (∀ j, j < L → kd j = bi_F1 f_sos k j) → post (f_cap, f_depth, f_size, f_paragraph, f_lines, f_resolved, f_top, f_overflowIsolates, f_overflowEmbeddings, f_validIsolates, nI L, f_seqLevel, f_runDir, f_sos, f_eos, f_openCount, a_text, a_breakAfter, a_partner, a_level, a_type, a_prevKept, a_nextKept, a_implicit, a_pair, a_valid, a_taken, a_stackLevel, a_stackOverride, a_stackIsolate, a_seq, kd, a_mate, a_openAt, a_wasMark, a_lineFirst, a_lineSlot, a_lineLv, a_order, a_place)) : wpX_resolveMarks post (f_cap, f_depth, f_size, f_paragraph, f_lines, f_resolved, f_top, f_overflowIsolates, f_overflowEmbeddings, f_validIsolates, nI L, f_seqLevel, f_runDir, f_sos, f_eos, f_openCount, a_text, a_breakAfter, a_partner, a_level, a_type, a_prevKept, a_nextKept, a_implicit, a_pair, a_valid, a_taken, a_stackLevel, a_stackOverride, a_stackIsolate, a_seq, a_kind, a_mate, a_openAt, a_wasMark, a_lineFirst, a_lineSlot, a_lineLv, a_order, a_place) :=
  Exists.intro 33 (bx_marks_loop hL hC 33 0 a_kind (by omega) (by omega) (bi_MX_0 hk))
theorem bx_arab_loop {post : SX → Prop} {L : Nat} {k : Nat → Int32} (hL : L ≤ 32) (hC : ∀ kd : Nat → Int32, (∀ j, j < L → kd j = bi_F3 (bi_F2 k) j) → post (f_cap, f_depth, f_size, f_paragraph, f_lines, f_resolved, f_top, f_overflowIsolates, f_overflowEmbeddings, f_validIsolates, nI L, f_seqLevel, f_runDir, f_sos, f_eos, f_openCount, a_text, a_breakAfter, a_partner, a_level, a_type, a_prevKept, a_nextKept, a_implicit, a_pair, a_valid, a_taken, a_stackLevel, a_stackOverride, a_stackIsolate, a_seq, kd, a_mate, a_openAt, a_wasMark, a_lineFirst, a_lineSlot, a_lineLv, a_order, a_place)) :
    ∀ (n i : Nat) (kd : Nat → Int32), i ≤ L → L - i < n → bi_MX L i (bi_F3 (bi_F2 k)) k kd → wX_resolveArabic_4 post f_cap f_depth f_size f_paragraph f_lines f_resolved f_top f_overflowIsolates f_overflowEmbeddings f_validIsolates (nI L) f_seqLevel f_runDir f_sos f_eos f_openCount n (bi_S2 k i) (nI i) a_text a_breakAfter a_partner a_level a_type a_prevKept a_nextKept a_implicit a_pair a_valid a_taken a_stackLevel a_stackOverride a_stackIsolate a_seq kd a_mate a_openAt a_wasMark a_lineFirst a_lineSlot a_lineLv a_order a_place := by
  intro n
  induction n with
  | zero => intro i kd _ h; omega
  | succ n ih =>
    intro i kd hi hn h
    by_cases z : L ≤ i
    · have e : i = L := by omega
      subst e
      exact br_t (nI_le z (by omega)) (hC kd (bi_MX_e h))
    · have hv := vp_in_nI (n := i) (N := 32) (by omega) (by omega)
      refine br_f (nI_ge (by omega) (by omega)) ?_
      rw [nI_clamp (n := i) (by omega)]
      have hki := bi_MX_hi h (by omega) (Nat.le_refl i)
      have h29 : (k i = 3 → bi_S2 k (i + 1) = bi_S2 k i) → wX_resolveArabic_29 post (wX_resolveArabic_4 post f_cap f_depth f_size f_paragraph f_lines f_resolved f_top f_overflowIsolates f_overflowEmbeddings f_validIsolates (nI L) f_seqLevel f_runDir f_sos f_eos f_openCount n) (bi_S2 k (i + 1)) (nI i) f_cap f_depth f_size f_paragraph f_lines f_resolved f_top f_overflowIsolates f_overflowEmbeddings f_validIsolates (nI L) f_seqLevel f_runDir f_sos f_eos f_openCount a_text a_breakAfter a_partner a_level a_type a_prevKept a_nextKept a_implicit a_pair a_valid a_taken a_stackLevel a_stackOverride a_stackIsolate a_seq kd a_mate a_openAt a_wasMark a_lineFirst a_lineSlot a_lineLv a_order a_place := by
        intro hS
        unfold wX_resolveArabic_29
        rw [nI_clamp (n := i) (by omega), hki]
        have h52 : ¬ (k i = 3 ∧ bi_S2 k i = 2) → wX_resolveArabic_52 post (wX_resolveArabic_4 post f_cap f_depth f_size f_paragraph f_lines f_resolved f_top f_overflowIsolates f_overflowEmbeddings f_validIsolates (nI L) f_seqLevel f_runDir f_sos f_eos f_openCount n) (bi_S2 k (i + 1)) (nI i) f_cap f_depth f_size f_paragraph f_lines f_resolved f_top f_overflowIsolates f_overflowEmbeddings f_validIsolates (nI L) f_seqLevel f_runDir f_sos f_eos f_openCount a_text a_breakAfter a_partner a_level a_type a_prevKept a_nextKept a_implicit a_pair a_valid a_taken a_stackLevel a_stackOverride a_stackIsolate a_seq kd a_mate a_openAt a_wasMark a_lineFirst a_lineSlot a_lineLv a_order a_place := by
          intro q
          unfold wX_resolveArabic_52
          rw [nI_clamp (n := i) (by omega), hki]
          have e2 : bi_F2 k i = k i := if_neg q
          refine And.intro hv (br_c (fun w => And.intro hv (nm_e (nm_r (nI_1 i) (ih (i + 1) _ (by omega) (by omega) (bi_MX_u h ?_))))) (fun w => nm_r (nI_1 i) (ih (i + 1) kd (by omega) (by omega) (bi_MX_s h (fun _ => ?_)))))
          · unfold bi_F3; rw [e2, if_pos w]
          · unfold bi_F3; rw [e2, if_neg w]
        refine And.intro hv (br_c (fun q => ?_) (fun q => h52 (fun w => q w.1)))
        rw [hS q] at h52 ⊢
        refine br_c (fun w => And.intro hv (nm_e ?_)) (fun w => h52 (fun v => w v.2))
        unfold wX_resolveArabic_52
        rw [nI_clamp (n := i) (by omega), pk_us]
        have e2 : bi_F2 k i = 6 := if_pos ⟨q, w⟩
        have := ih (i + 1) (upd kd i 6) (by omega) (by omega) (bi_MX_u h (by unfold bi_F3; rw [e2, if_neg (by decide)]))
        rw [hS q] at this
        exact And.intro hv (br_f (by decide) (nm_r (nI_1 i) this))
      rw [hki]
      refine And.intro hv (br_c (fun q => ?_) (fun q => And.intro hv ?_))
      · have e : bi_S2 k (i + 1) = bi_S2 k i := if_pos q
        rw [e] at h29
        exact h29 (fun _ => rfl)
      · have e : bi_S2 k (i + 1) = k i := if_neg q
        rw [e] at h29
        exact nm_e (h29 (fun w => by rw [w] at q; exact absurd (by decide) q))
theorem bx_arab {post : SX → Prop} {L : Nat} {k : Nat → Int32} (hL : L ≤ 32) (hk : ∀ j, j < L → a_kind j = k j) (hC : ∀ kd : Nat → Int32, (∀ j, j < L → kd j = bi_F3 (bi_F2 k) j) → post (f_cap, f_depth, f_size, f_paragraph, f_lines, f_resolved, f_top, f_overflowIsolates, f_overflowEmbeddings, f_validIsolates, nI L, f_seqLevel, f_runDir, f_sos, f_eos, f_openCount, a_text, a_breakAfter, a_partner, a_level, a_type, a_prevKept, a_nextKept, a_implicit, a_pair, a_valid, a_taken, a_stackLevel, a_stackOverride, a_stackIsolate, a_seq, kd, a_mate, a_openAt, a_wasMark, a_lineFirst, a_lineSlot, a_lineLv, a_order, a_place)) : wpX_resolveArabic post (f_cap, f_depth, f_size, f_paragraph, f_lines, f_resolved, f_top, f_overflowIsolates, f_overflowEmbeddings, f_validIsolates, nI L, f_seqLevel, f_runDir, f_sos, f_eos, f_openCount, a_text, a_breakAfter, a_partner, a_level, a_type, a_prevKept, a_nextKept, a_implicit, a_pair, a_valid, a_taken, a_stackLevel, a_stackOverride, a_stackIsolate, a_seq, a_kind, a_mate, a_openAt, a_wasMark, a_lineFirst, a_lineSlot, a_lineLv, a_order, a_place) :=
  Exists.intro 33 (bx_arab_loop hL hC 33 0 a_kind (by omega) (by omega) (bi_MX_0 hk))
theorem bx_sep77 {post : SX → Prop} {J : Int32 →  (Nat → Int32) → (Nat → Int32) → (Nat → Int32) → (Nat → Int32) → (Nat → Int32) → (Nat → Int32) → (Nat → Int32) → (Nat → Int32) → (Nat → Int32) → (Nat → Int32) → (Nat → Int32) → (Nat → Int32) → (Nat → Int32) → (Nat → Int32) → (Nat → Int32) → (Nat → Int32) → (Nat → Int32) → (Nat → Int32) → (Nat → Int32) → (Nat → Int32) → (Nat → Int32) → (Nat → Int32) → (Nat → Int32) → (Nat → Int32) →  Prop} {i : Nat} {z : Int32} (hi : i < 32) (k1 : z = 6 → a_kind i = 7 → J (nI (i + 1)) a_text a_breakAfter a_partner a_level a_type a_prevKept a_nextKept a_implicit a_pair a_valid a_taken a_stackLevel a_stackOverride a_stackIsolate a_seq (upd a_kind i 6) a_mate a_openAt a_wasMark a_lineFirst a_lineSlot a_lineLv a_order a_place) (k0 : ¬ (z = 6 ∧ a_kind i = 7) → J (nI (i + 1)) a_text a_breakAfter a_partner a_level a_type a_prevKept a_nextKept a_implicit a_pair a_valid a_taken a_stackLevel a_stackOverride a_stackIsolate a_seq a_kind a_mate a_openAt a_wasMark a_lineFirst a_lineSlot a_lineLv a_order a_place) : wX_resolveSeparators_77 post J (nI i) z f_cap f_depth f_size f_paragraph f_lines f_resolved f_top f_overflowIsolates f_overflowEmbeddings f_validIsolates f_seqLen f_seqLevel f_runDir f_sos f_eos f_openCount a_text a_breakAfter a_partner a_level a_type a_prevKept a_nextKept a_implicit a_pair a_valid a_taken a_stackLevel a_stackOverride a_stackIsolate a_seq a_kind a_mate a_openAt a_wasMark a_lineFirst a_lineSlot a_lineLv a_order a_place := by
  unfold wX_resolveSeparators_77
  rw [nI_clamp (n := i) (by omega)]
  have hv := vp_in_nI (n := i) (N := 32) hi (by omega)
  exact br_c (fun q => And.intro hv (br_c (fun w => And.intro hv (nm_e (nm_r (nI_1 i) (k1 q w)))) (fun w => nm_r (nI_1 i) (k0 (fun v => w v.2))))) (fun q => nm_r (nI_1 i) (k0 (fun v => q v.1)))
theorem bx_sep43 {post : SX → Prop} {J : Int32 →  (Nat → Int32) → (Nat → Int32) → (Nat → Int32) → (Nat → Int32) → (Nat → Int32) → (Nat → Int32) → (Nat → Int32) → (Nat → Int32) → (Nat → Int32) → (Nat → Int32) → (Nat → Int32) → (Nat → Int32) → (Nat → Int32) → (Nat → Int32) → (Nat → Int32) → (Nat → Int32) → (Nat → Int32) → (Nat → Int32) → (Nat → Int32) → (Nat → Int32) → (Nat → Int32) → (Nat → Int32) → (Nat → Int32) → (Nat → Int32) →  Prop} {i : Nat} {z : Int32} (hi : i < 32) (k3 : z = 3 → (a_kind i = 4 ∨ a_kind i = 7) → J (nI (i + 1)) a_text a_breakAfter a_partner a_level a_type a_prevKept a_nextKept a_implicit a_pair a_valid a_taken a_stackLevel a_stackOverride a_stackIsolate a_seq (upd a_kind i 3) a_mate a_openAt a_wasMark a_lineFirst a_lineSlot a_lineLv a_order a_place) (k6 : z = 6 → a_kind i = 7 → J (nI (i + 1)) a_text a_breakAfter a_partner a_level a_type a_prevKept a_nextKept a_implicit a_pair a_valid a_taken a_stackLevel a_stackOverride a_stackIsolate a_seq (upd a_kind i 6) a_mate a_openAt a_wasMark a_lineFirst a_lineSlot a_lineLv a_order a_place) (k0 : ¬ (z = 3 ∧ (a_kind i = 4 ∨ a_kind i = 7)) → ¬ (z = 6 ∧ a_kind i = 7) → J (nI (i + 1)) a_text a_breakAfter a_partner a_level a_type a_prevKept a_nextKept a_implicit a_pair a_valid a_taken a_stackLevel a_stackOverride a_stackIsolate a_seq a_kind a_mate a_openAt a_wasMark a_lineFirst a_lineSlot a_lineLv a_order a_place) : wX_resolveSeparators_43 post J (nI i) z f_cap f_depth f_size f_paragraph f_lines f_resolved f_top f_overflowIsolates f_overflowEmbeddings f_validIsolates f_seqLen f_seqLevel f_runDir f_sos f_eos f_openCount a_text a_breakAfter a_partner a_level a_type a_prevKept a_nextKept a_implicit a_pair a_valid a_taken a_stackLevel a_stackOverride a_stackIsolate a_seq a_kind a_mate a_openAt a_wasMark a_lineFirst a_lineSlot a_lineLv a_order a_place := by
  have hv := vp_in_nI (n := i) (N := 32) hi (by omega)
  have h70 : z = 3 → (a_kind i = 4 ∨ a_kind i = 7) → wX_resolveSeparators_70 post J (nI i) z f_cap f_depth f_size f_paragraph f_lines f_resolved f_top f_overflowIsolates f_overflowEmbeddings f_validIsolates f_seqLen f_seqLevel f_runDir f_sos f_eos f_openCount a_text a_breakAfter a_partner a_level a_type a_prevKept a_nextKept a_implicit a_pair a_valid a_taken a_stackLevel a_stackOverride a_stackIsolate a_seq a_kind a_mate a_openAt a_wasMark a_lineFirst a_lineSlot a_lineLv a_order a_place := by
    intro q w
    unfold wX_resolveSeparators_70
    rw [nI_clamp (n := i) (by omega)]
    exact And.intro hv (nm_e (bx_sep77 hi (fun v => by rw [q] at v; exact absurd v (by decide)) (fun _ => k3 q w)))
  unfold wX_resolveSeparators_43
  rw [nI_clamp (n := i) (by omega)]
  exact br_c (fun q => And.intro hv (br_c (fun w => h70 q (Or.inl w)) (fun w => And.intro hv (br_c (fun v => h70 q (Or.inr v)) (fun v => bx_sep77 hi k6 (k0 (fun u => u.2.elim w v))))))) (fun q => bx_sep77 hi k6 (k0 (fun u => q u.1)))
theorem bx_sep_loop {post : SX → Prop} {L : Nat} {k : Nat → Int32} (hL : L ≤ 32) (hL1 : 1 ≤ L) (hC : ∀ kd : Nat → Int32, (∀ j, j < L → kd j = bi_F4 L k j) → post (f_cap, f_depth, f_size, f_paragraph, f_lines, f_resolved, f_top, f_overflowIsolates, f_overflowEmbeddings, f_validIsolates, nI L, f_seqLevel, f_runDir, f_sos, f_eos, f_openCount, a_text, a_breakAfter, a_partner, a_level, a_type, a_prevKept, a_nextKept, a_implicit, a_pair, a_valid, a_taken, a_stackLevel, a_stackOverride, a_stackIsolate, a_seq, kd, a_mate, a_openAt, a_wasMark, a_lineFirst, a_lineSlot, a_lineLv, a_order, a_place)) :
    ∀ (n i : Nat) (kd : Nat → Int32), L - i < n → i ≤ L → bi_MX L (i + 1) (bi_F4 L k) k kd → wX_resolveSeparators_2 post f_cap f_depth f_size f_paragraph f_lines f_resolved f_top f_overflowIsolates f_overflowEmbeddings f_validIsolates (nI L) f_seqLevel f_runDir f_sos f_eos f_openCount n (nI (i + 1)) a_text a_breakAfter a_partner a_level a_type a_prevKept a_nextKept a_implicit a_pair a_valid a_taken a_stackLevel a_stackOverride a_stackIsolate a_seq kd a_mate a_openAt a_wasMark a_lineFirst a_lineSlot a_lineLv a_order a_place := by
  intro n
  induction n with
  | zero => intro i kd h; omega
  | succ n ih =>
    intro i kd hn hiL h
    by_cases z : L ≤ i + 2
    · refine br_t (by rw [bi_p1 (by omega)]; exact nI_le (by omega) (by omega)) (hC kd (fun j hj => ?_))
      by_cases w : j < i + 1
      · exact bi_MX_lo h hj w
      · rw [bi_MX_hi h hj (by omega)]
        obtain ⟨m, rfl⟩ : ∃ m, j = m + 1 := ⟨j - 1, by omega⟩
        simp only [bi_F4]
        rw [if_neg (fun v => by omega), if_neg (fun v => by omega)]
    · have e0 := bi_MX_lo h (show i < L by omega) (by omega)
      have e1 := bi_MX_hi h (show i + 1 < L by omega) (Nat.le_refl _)
      have e2 := bi_MX_hi h (show i + 1 + 1 < L by omega) (by omega)
      refine br_f (by rw [bi_p1 (by omega)]; exact nI_ge (by omega) (by omega)) ?_
      rw [nI_pred, nI_1, nI_clamp (n := i) (by omega), nI_clamp (n := i + 1 + 1) (by omega), e0, e2]
      have go : ∀ zz : Int32, (zz = 3 ↔ (bi_F4 L k i = 3 ∧ k (i + 2) = 3)) → (zz = 6 ↔ (bi_F4 L k i = 6 ∧ k (i + 2) = 6)) → wX_resolveSeparators_43 post (wX_resolveSeparators_2 post f_cap f_depth f_size f_paragraph f_lines f_resolved f_top f_overflowIsolates f_overflowEmbeddings f_validIsolates (nI L) f_seqLevel f_runDir f_sos f_eos f_openCount n) (nI (i + 1)) zz f_cap f_depth f_size f_paragraph f_lines f_resolved f_top f_overflowIsolates f_overflowEmbeddings f_validIsolates (nI L) f_seqLevel f_runDir f_sos f_eos f_openCount a_text a_breakAfter a_partner a_level a_type a_prevKept a_nextKept a_implicit a_pair a_valid a_taken a_stackLevel a_stackOverride a_stackIsolate a_seq kd a_mate a_openAt a_wasMark a_lineFirst a_lineSlot a_lineLv a_order a_place := by
        intro zz z3 z6
        refine bx_sep43 (by omega) (fun q w => ?_) (fun q w => ?_) (fun q w => ?_)
        · rw [e1] at w
          refine ih (i + 1) _ (by omega) (by omega) (bi_MX_u h ?_)
          simp only [bi_F4]
          rw [if_pos ⟨by omega, (z3.mp q).1, (z3.mp q).2, w⟩]
        · rw [e1] at w
          refine ih (i + 1) _ (by omega) (by omega) (bi_MX_u h ?_)
          simp only [bi_F4]
          rw [if_neg (fun v => by have := v.2.1; rw [(z6.mp q).1] at this; exact absurd this (by decide)), if_pos ⟨by omega, (z6.mp q).1, (z6.mp q).2, w⟩]
        · rw [e1] at q w
          refine ih (i + 1) kd (by omega) (by omega) (bi_MX_s h (fun _ => ?_))
          simp only [bi_F4]
          rw [if_neg (fun v => q ⟨z3.mpr ⟨v.2.1, v.2.2.1⟩, v.2.2.2⟩), if_neg (fun v => w ⟨z6.mpr ⟨v.2.1, v.2.2.1⟩, v.2.2.2⟩)]
      refine And.intro (vp_in_nI (by omega) (by omega)) (And.intro (vp_in_nI (by omega) (by omega)) (br_c (fun q => And.intro (vp_in_nI (by omega) (by omega)) (go _ ?_ ?_)) (fun q => go _ ?_ ?_)))
      · exact ⟨fun v => ⟨v, by rw [show i + 2 = i + 1 + 1 by omega, ← q]; exact v⟩, fun v => v.1⟩
      · exact ⟨fun v => ⟨v, by rw [show i + 2 = i + 1 + 1 by omega, ← q]; exact v⟩, fun v => v.1⟩
      · exact ⟨fun v => absurd v (by decide), fun v => absurd (by rw [v.1]; exact v.2.symm) q⟩
      · exact ⟨fun v => absurd v (by decide), fun v => absurd (by rw [v.1]; exact v.2.symm) q⟩
theorem bx_sep {post : SX → Prop} {L : Nat} {k : Nat → Int32} (hL : L ≤ 32) (hL1 : 1 ≤ L) (hk : ∀ j, j < L → a_kind j = k j) (hC : ∀ kd : Nat → Int32, (∀ j, j < L → kd j = bi_F4 L k j) → post (f_cap, f_depth, f_size, f_paragraph, f_lines, f_resolved, f_top, f_overflowIsolates, f_overflowEmbeddings, f_validIsolates, nI L, f_seqLevel, f_runDir, f_sos, f_eos, f_openCount, a_text, a_breakAfter, a_partner, a_level, a_type, a_prevKept, a_nextKept, a_implicit, a_pair, a_valid, a_taken, a_stackLevel, a_stackOverride, a_stackIsolate, a_seq, kd, a_mate, a_openAt, a_wasMark, a_lineFirst, a_lineSlot, a_lineLv, a_order, a_place)) : wpX_resolveSeparators post (f_cap, f_depth, f_size, f_paragraph, f_lines, f_resolved, f_top, f_overflowIsolates, f_overflowEmbeddings, f_validIsolates, nI L, f_seqLevel, f_runDir, f_sos, f_eos, f_openCount, a_text, a_breakAfter, a_partner, a_level, a_type, a_prevKept, a_nextKept, a_implicit, a_pair, a_valid, a_taken, a_stackLevel, a_stackOverride, a_stackIsolate, a_seq, a_kind, a_mate, a_openAt, a_wasMark, a_lineFirst, a_lineSlot, a_lineLv, a_order, a_place) :=
  Exists.intro 33 (bx_sep_loop hL hL1 hC 33 0 a_kind (by omega) (by omega) (bi_MX_s (bi_MX_0 hk) (fun _ => rfl)))
theorem bx_fill_loop {post : SX → Prop} {b : Nat} {v : Int32} (hb : b ≤ 32) : ∀ (n a : Nat) (kd : Nat → Int32), b - a < n → a ≤ b → post (f_cap, f_depth, f_size, f_paragraph, f_lines, f_resolved, f_top, f_overflowIsolates, f_overflowEmbeddings, f_validIsolates, f_seqLen, f_seqLevel, f_runDir, f_sos, f_eos, f_openCount, a_text, a_breakAfter, a_partner, a_level, a_type, a_prevKept, a_nextKept, a_implicit, a_pair, a_valid, a_taken, a_stackLevel, a_stackOverride, a_stackIsolate, a_seq, bi_fl kd a b v, a_mate, a_openAt, a_wasMark, a_lineFirst, a_lineSlot, a_lineLv, a_order, a_place) → wX_fill_3 post (nI b) v f_cap f_depth f_size f_paragraph f_lines f_resolved f_top f_overflowIsolates f_overflowEmbeddings f_validIsolates f_seqLen f_seqLevel f_runDir f_sos f_eos f_openCount n (nI a) a_text a_breakAfter a_partner a_level a_type a_prevKept a_nextKept a_implicit a_pair a_valid a_taken a_stackLevel a_stackOverride a_stackIsolate a_seq kd a_mate a_openAt a_wasMark a_lineFirst a_lineSlot a_lineLv a_order a_place := by
  intro n
  induction n with
  | zero => intro a kd h; omega
  | succ n ih =>
    intro a kd hn ha k
    by_cases z : b ≤ a
    · rw [bi_fl_0 z] at k
      exact br_t (nI_le z (by omega)) k
    · refine br_f (nI_ge (by omega) (by omega)) ?_
      rw [nI_clamp (n := a) (by omega)]
      exact And.intro (vp_in_nI (by omega) (by omega)) (nm_e (nm_r (nI_1 a) (ih (a + 1) _ (by omega) (by omega) (by rw [bi_fl_s (by omega)]; exact k))))
theorem bx_fill {post : SX → Prop} {a b : Nat} {v : Int32} (hab : a ≤ b) (hb : b ≤ 32) (k : post (f_cap, f_depth, f_size, f_paragraph, f_lines, f_resolved, f_top, f_overflowIsolates, f_overflowEmbeddings, f_validIsolates, f_seqLen, f_seqLevel, f_runDir, f_sos, f_eos, f_openCount, a_text, a_breakAfter, a_partner, a_level, a_type, a_prevKept, a_nextKept, a_implicit, a_pair, a_valid, a_taken, a_stackLevel, a_stackOverride, a_stackIsolate, a_seq, bi_fl a_kind a b v, a_mate, a_openAt, a_wasMark, a_lineFirst, a_lineSlot, a_lineLv, a_order, a_place)) : wpX_fill post (f_cap, f_depth, f_size, f_paragraph, f_lines, f_resolved, f_top, f_overflowIsolates, f_overflowEmbeddings, f_validIsolates, f_seqLen, f_seqLevel, f_runDir, f_sos, f_eos, f_openCount, a_text, a_breakAfter, a_partner, a_level, a_type, a_prevKept, a_nextKept, a_implicit, a_pair, a_valid, a_taken, a_stackLevel, a_stackOverride, a_stackIsolate, a_seq, a_kind, a_mate, a_openAt, a_wasMark, a_lineFirst, a_lineSlot, a_lineLv, a_order, a_place) (nI a) (nI b) v :=
  Exists.intro 33 (bx_fill_loop hb 33 a a_kind (by omega) hab k)
theorem bx_term12 {post : SX → Prop} {J : Int32 → Int32 → Int32 → Int32 → Int32 → Int32 → Int32 → Int32 → Int32 → Int32 → Int32 → Int32 → Int32 → Int32 → Int32 → Int32 → Int32 →  (Nat → Int32) → (Nat → Int32) → (Nat → Int32) → (Nat → Int32) → (Nat → Int32) → (Nat → Int32) → (Nat → Int32) → (Nat → Int32) → (Nat → Int32) → (Nat → Int32) → (Nat → Int32) → (Nat → Int32) → (Nat → Int32) → (Nat → Int32) → (Nat → Int32) → (Nat → Int32) → (Nat → Int32) → (Nat → Int32) → (Nat → Int32) → (Nat → Int32) → (Nat → Int32) → (Nat → Int32) → (Nat → Int32) → (Nat → Int32) →  Prop} {i L : Nat} (hL : L ≤ 32) (hi : i < L)
    (k1 : ∀ e, i ≤ e → e ≤ L → (∀ j, i ≤ j → j < e → a_kind j = 5) → ((0 < i ∧ a_kind (i - 1) = 3) ∨ (e < L ∧ a_kind e = 3)) → (e < L → ¬ a_kind e = 5) → J (nI (i + 1)) f_cap f_depth f_size f_paragraph f_lines f_resolved f_top f_overflowIsolates f_overflowEmbeddings f_validIsolates (nI L) f_seqLevel f_runDir f_sos f_eos f_openCount a_text a_breakAfter a_partner a_level a_type a_prevKept a_nextKept a_implicit a_pair a_valid a_taken a_stackLevel a_stackOverride a_stackIsolate a_seq (bi_fl a_kind i e 3) a_mate a_openAt a_wasMark a_lineFirst a_lineSlot a_lineLv a_order a_place)
    (k0 : ∀ e, i ≤ e → e ≤ L → (∀ j, i ≤ j → j < e → a_kind j = 5) → ¬ ((0 < i ∧ a_kind (i - 1) = 3) ∨ (e < L ∧ a_kind e = 3)) → (e < L → ¬ a_kind e = 5) → J (nI (i + 1)) f_cap f_depth f_size f_paragraph f_lines f_resolved f_top f_overflowIsolates f_overflowEmbeddings f_validIsolates (nI L) f_seqLevel f_runDir f_sos f_eos f_openCount a_text a_breakAfter a_partner a_level a_type a_prevKept a_nextKept a_implicit a_pair a_valid a_taken a_stackLevel a_stackOverride a_stackIsolate a_seq a_kind a_mate a_openAt a_wasMark a_lineFirst a_lineSlot a_lineLv a_order a_place) :
    ∀ (n e : Nat), L - e < n → i ≤ e → e ≤ L → (∀ j, i ≤ j → j < e → a_kind j = 5) → wX_resolveTerminators_12 post J (nI i) f_cap f_depth f_size f_paragraph f_lines f_resolved f_top f_overflowIsolates f_overflowEmbeddings f_validIsolates (nI L) f_seqLevel f_runDir f_sos f_eos f_openCount a_text a_breakAfter a_partner a_level a_type a_prevKept a_nextKept a_implicit a_pair a_valid a_taken a_stackLevel a_stackOverride a_stackIsolate a_seq a_kind a_mate a_openAt a_wasMark a_lineFirst a_lineSlot a_lineLv a_order a_place n (nI e) := by
  intro n
  induction n with
  | zero => intro e h; omega
  | succ n ih =>
    intro e hn h1 h2 h3
    have h36 : (e < L → ¬ a_kind e = 5) → wX_resolveTerminators_36 post J (nI i) (nI e) f_cap f_depth f_size f_paragraph f_lines f_resolved f_top f_overflowIsolates f_overflowEmbeddings f_validIsolates (nI L) f_seqLevel f_runDir f_sos f_eos f_openCount a_text a_breakAfter a_partner a_level a_type a_prevKept a_nextKept a_implicit a_pair a_valid a_taken a_stackLevel a_stackOverride a_stackIsolate a_seq a_kind a_mate a_openAt a_wasMark a_lineFirst a_lineSlot a_lineLv a_order a_place := by
      intro h5
      have h70 : ((0 < i ∧ a_kind (i - 1) = 3) ∨ (e < L ∧ a_kind e = 3)) → wX_resolveTerminators_70 post J (nI i) (nI e) f_cap f_depth f_size f_paragraph f_lines f_resolved f_top f_overflowIsolates f_overflowEmbeddings f_validIsolates (nI L) f_seqLevel f_runDir f_sos f_eos f_openCount a_text a_breakAfter a_partner a_level a_type a_prevKept a_nextKept a_implicit a_pair a_valid a_taken a_stackLevel a_stackOverride a_stackIsolate a_seq a_kind a_mate a_openAt a_wasMark a_lineFirst a_lineSlot a_lineLv a_order a_place := by
        intro q
        unfold wX_resolveTerminators_70
        exact bx_fill h1 (by omega) (nm_r (nI_1 i) (k1 e h1 h2 h3 q h5))
      have h52 : ¬ (0 < i ∧ a_kind (i - 1) = 3) → wX_resolveTerminators_52 post J (nI i) (nI e) f_cap f_depth f_size f_paragraph f_lines f_resolved f_top f_overflowIsolates f_overflowEmbeddings f_validIsolates (nI L) f_seqLevel f_runDir f_sos f_eos f_openCount a_text a_breakAfter a_partner a_level a_type a_prevKept a_nextKept a_implicit a_pair a_valid a_taken a_stackLevel a_stackOverride a_stackIsolate a_seq a_kind a_mate a_openAt a_wasMark a_lineFirst a_lineSlot a_lineLv a_order a_place := by
        intro q
        unfold wX_resolveTerminators_52
        by_cases z : L ≤ e
        · exact br_t (nI_le z (by omega)) (nm_r (nI_1 i) (k0 e h1 h2 h3 (fun w => w.elim q (fun v => by omega)) h5))
        · refine br_f (nI_ge (by omega) (by omega)) (And.intro (vp_in_nI (by omega) (by omega)) ?_)
          rw [nI_clamp (n := e) (by omega)]
          exact br_c (fun w => h70 (Or.inr ⟨by omega, w⟩)) (fun w => nm_r (nI_1 i) (k0 e h1 h2 h3 (fun v => v.elim q (fun u => w u.2)) h5))
      unfold wX_resolveTerminators_36
      by_cases z : i = 0
      · exact br_t ((bi_le0 (by omega)).mpr z) (h52 (fun w => by omega))
      · refine br_f (nI_nle (by omega) (by omega)) ?_
        rw [bi_p1 (by omega), nI_clamp (n := i - 1) (by omega)]
        exact And.intro (vp_in_nI (by omega) (by omega)) (br_c (fun w => h70 (Or.inl ⟨by omega, w⟩)) (fun w => h52 (fun v => w v.2)))
    by_cases z : L ≤ e
    · exact br_t (nI_le z (by omega)) (h36 (fun w => by omega))
    · refine br_f (nI_ge (by omega) (by omega)) ?_
      rw [nI_clamp (n := e) (by omega)]
      refine And.intro (vp_in_nI (by omega) (by omega)) (br_c (fun w => nm_r (nI_1 e) (ih (e + 1) (by omega) (by omega) (by omega) (fun j j1 j2 => ?_))) (fun w => h36 (fun _ => w)))
      by_cases q : j = e
      · subst q; exact w
      · exact h3 j j1 (by omega)
theorem bx_term_loop {post : SX → Prop} {L : Nat} {k : Nat → Int32} (hL : L ≤ 32) (hC : ∀ kd : Nat → Int32, (∀ j, j < L → kd j = bi_F5 L k j) → post (f_cap, f_depth, f_size, f_paragraph, f_lines, f_resolved, f_top, f_overflowIsolates, f_overflowEmbeddings, f_validIsolates, nI L, f_seqLevel, f_runDir, f_sos, f_eos, f_openCount, a_text, a_breakAfter, a_partner, a_level, a_type, a_prevKept, a_nextKept, a_implicit, a_pair, a_valid, a_taken, a_stackLevel, a_stackOverride, a_stackIsolate, a_seq, kd, a_mate, a_openAt, a_wasMark, a_lineFirst, a_lineSlot, a_lineLv, a_order, a_place)) :
    ∀ (n i m : Nat) (kd : Nat → Int32), i ≤ L → L - i < n → i ≤ m → bi_MX L m (bi_F5 L k) k kd → (∀ j, i ≤ j → j < m → j < L → bi_F5 L k j = 3) → wX_resolveTerminators_2 post n (nI i) f_cap f_depth f_size f_paragraph f_lines f_resolved f_top f_overflowIsolates f_overflowEmbeddings f_validIsolates (nI L) f_seqLevel f_runDir f_sos f_eos f_openCount a_text a_breakAfter a_partner a_level a_type a_prevKept a_nextKept a_implicit a_pair a_valid a_taken a_stackLevel a_stackOverride a_stackIsolate a_seq kd a_mate a_openAt a_wasMark a_lineFirst a_lineSlot a_lineLv a_order a_place := by
  intro n
  induction n with
  | zero => intro i m kd _ h; omega
  | succ n ih =>
    intro i m kd hi hn hm h h3
    by_cases z : L ≤ i
    · refine br_t (nI_le z (by omega)) (hC kd (fun j hj => bi_MX_lo h hj (by omega)))
    · refine br_f (nI_ge (by omega) (by omega)) (Exists.intro 33 (bx_term12 hL (by omega) (fun e e1 e2 e3 e4 e5 => ?_) (fun e e1 e2 e3 e4 e5 => ?_) 33 i (by omega) (Nat.le_refl _) (by omega) (fun j j1 j2 => by omega)))
      · by_cases w : i < m
        · have q : kd i = 3 := by rw [bi_MX_lo h (by omega) w]; exact h3 i (Nat.le_refl _) w (by omega)
          have ee : e = i := by
            rcases Nat.lt_or_ge i e with v | v
            · have := e3 i (Nat.le_refl _) v
              rw [q] at this; exact absurd this (by decide)
            · omega
          rw [ee, bi_fl_0 (Nat.le_refl _)]
          exact ih (i + 1) m kd (by omega) (by omega) (by omega) h (fun j j1 j2 => h3 j (by omega) j2)
        · have em : m = i := by omega
          subst em
          by_cases q : k m = 5
          · have ei : m < e := by
              rcases Nat.lt_or_ge m e with v | v
              · exact v
              · have : e = m := by omega
                subst this
                exact absurd (by rw [bi_MX_hi h (by omega) (Nat.le_refl _)]; exact q) (e5 (by omega))
            have e3' : ∀ j, m ≤ j → j < e → k j = 5 := fun j j1 j2 => by rw [← bi_MX_hi h (by omega) j1]; exact e3 j j1 j2
            have run := fun {j : Nat} => bi_run5 (L := L) (k := k) e2 e3' (j := j)
            have r5 : bi_r5 k L m = if e < L then k e else 0 := by
              rw [← (run (Nat.le_of_lt ei) (Nat.le_refl _)).2]
              by_cases v : e < L
              · rw [if_pos v, bi_r5_eq v, if_neg (by rw [← bi_MX_hi h v (by omega)]; exact e5 v)]
              · rw [if_neg v, bi_r5_end (by omega)]
            have hcond : bi_l5 k m = 3 ∨ bi_r5 k L m = 3 := by
              refine (bi_F5_prev (by omega) q).mp ?_
              rcases e4 with v | v
              · exact Or.inl ⟨v.1, by rw [← bi_MX_lo h (by omega) (by omega)]; exact v.2⟩
              · refine Or.inr ?_
                rw [r5, if_pos v.1, ← bi_MX_hi h v.1 (by omega)]; exact v.2
            have f3 : ∀ j, m ≤ j → j < e → bi_F5 L k j = 3 := by
              intro j j1 j2
              rw [bi_F5_5 (e3' j j1 j2), (run j1 (by omega)).1, (run j1 (by omega)).2, if_pos hcond]
            refine ih (m + 1) e _ (by omega) (by omega) (by omega) (fun j hj => ?_) (fun j j1 j2 _ => f3 j (by omega) j2)
            by_cases v : m ≤ j ∧ j < e
            · rw [bi_fl_in v.1 v.2, if_pos v.2, f3 j v.1 v.2]
            · rw [bi_fl_out v]
              by_cases u : j < e
              · rw [if_pos u]; exact bi_MX_lo h hj (by omega)
              · rw [if_neg u]; exact bi_MX_hi h hj (by omega)
          · have ee : e = m := by
              rcases Nat.lt_or_ge m e with v | v
              · have := e3 m (Nat.le_refl _) v
                rw [bi_MX_hi h (by omega) (Nat.le_refl _)] at this; exact absurd this q
              · omega
            rw [ee, bi_fl_0 (Nat.le_refl _)]
            exact ih (m + 1) (m + 1) kd (by omega) (by omega) (by omega) (bi_MX_s h (fun _ => (bi_F5_n q).symm)) (fun j j1 j2 => by omega)
      · by_cases w : i < m
        · exact ih (i + 1) m kd (by omega) (by omega) (by omega) h (fun j j1 j2 => h3 j (by omega) j2)
        · have em : m = i := by omega
          subst em
          refine ih (m + 1) (m + 1) kd (by omega) (by omega) (by omega) (bi_MX_s h (fun _ => ?_)) (fun j j1 j2 => by omega)
          by_cases q : k m = 5
          · have ei : m < e := by
              rcases Nat.lt_or_ge m e with v | v
              · exact v
              · have : e = m := by omega
                subst this
                exact absurd (by rw [bi_MX_hi h (by omega) (Nat.le_refl _)]; exact q) (e5 (by omega))
            have e3' : ∀ j, m ≤ j → j < e → k j = 5 := fun j j1 j2 => by rw [← bi_MX_hi h (by omega) j1]; exact e3 j j1 j2
            have run := fun {j : Nat} => bi_run5 (L := L) (k := k) e2 e3' (j := j)
            have r5 : bi_r5 k L m = if e < L then k e else 0 := by
              rw [← (run (Nat.le_of_lt ei) (Nat.le_refl _)).2]
              by_cases v : e < L
              · rw [if_pos v, bi_r5_eq v, if_neg (by rw [← bi_MX_hi h v (by omega)]; exact e5 v)]
              · rw [if_neg v, bi_r5_end (by omega)]
            have ncond : ¬ (bi_l5 k m = 3 ∨ bi_r5 k L m = 3) := by
              intro c
              rcases (bi_F5_prev (by omega) q).mpr c with v | v
              · exact e4 (Or.inl ⟨v.1, by rw [bi_MX_lo h (by omega) (by omega)]; exact v.2⟩)
              · rw [r5] at v
                by_cases u : e < L
                · rw [if_pos u] at v
                  exact e4 (Or.inr ⟨u, by rw [bi_MX_hi h u (by omega)]; exact v⟩)
                · rw [if_neg u] at v; exact absurd v (by decide)
            rw [bi_F5_5 q, if_neg ncond]; exact q
          · exact (bi_F5_n q).symm
theorem bx_term {post : SX → Prop} {L : Nat} {k : Nat → Int32} (hL : L ≤ 32) (hk : ∀ j, j < L → a_kind j = k j) (hC : ∀ kd : Nat → Int32, (∀ j, j < L → kd j = bi_F5 L k j) → post (f_cap, f_depth, f_size, f_paragraph, f_lines, f_resolved, f_top, f_overflowIsolates, f_overflowEmbeddings, f_validIsolates, nI L, f_seqLevel, f_runDir, f_sos, f_eos, f_openCount, a_text, a_breakAfter, a_partner, a_level, a_type, a_prevKept, a_nextKept, a_implicit, a_pair, a_valid, a_taken, a_stackLevel, a_stackOverride, a_stackIsolate, a_seq, kd, a_mate, a_openAt, a_wasMark, a_lineFirst, a_lineSlot, a_lineLv, a_order, a_place)) : wpX_resolveTerminators post (f_cap, f_depth, f_size, f_paragraph, f_lines, f_resolved, f_top, f_overflowIsolates, f_overflowEmbeddings, f_validIsolates, nI L, f_seqLevel, f_runDir, f_sos, f_eos, f_openCount, a_text, a_breakAfter, a_partner, a_level, a_type, a_prevKept, a_nextKept, a_implicit, a_pair, a_valid, a_taken, a_stackLevel, a_stackOverride, a_stackIsolate, a_seq, a_kind, a_mate, a_openAt, a_wasMark, a_lineFirst, a_lineSlot, a_lineLv, a_order, a_place) :=
  Exists.intro 33 (bx_term_loop hL hC 33 0 0 a_kind (by omega) (by omega) (Nat.le_refl _) (bi_MX_0 hk) (fun j j1 j2 => by omega))
theorem bx_num_loop {post : SX → Prop} {L : Nat} {k : Nat → Int32} (hL : L ≤ 32) (hC : ∀ kd : Nat → Int32, (∀ j, j < L → kd j = bi_F7 f_sos (bi_F6 k) j) → post (f_cap, f_depth, f_size, f_paragraph, f_lines, f_resolved, f_top, f_overflowIsolates, f_overflowEmbeddings, f_validIsolates, nI L, f_seqLevel, f_runDir, f_sos, f_eos, f_openCount, a_text, a_breakAfter, a_partner, a_level, a_type, a_prevKept, a_nextKept, a_implicit, a_pair, a_valid, a_taken, a_stackLevel, a_stackOverride, a_stackIsolate, a_seq, kd, a_mate, a_openAt, a_wasMark, a_lineFirst, a_lineSlot, a_lineLv, a_order, a_place)) :
    ∀ (n i : Nat) (kd : Nat → Int32), i ≤ L → L - i < n → bi_MX L i (bi_F7 f_sos (bi_F6 k)) k kd → wX_resolveNumbers_7 post f_cap f_depth f_size f_paragraph f_lines f_resolved f_top f_overflowIsolates f_overflowEmbeddings f_validIsolates (nI L) f_seqLevel f_runDir f_sos f_eos f_openCount n (bi_S7 f_sos k i) (nI i) a_text a_breakAfter a_partner a_level a_type a_prevKept a_nextKept a_implicit a_pair a_valid a_taken a_stackLevel a_stackOverride a_stackIsolate a_seq kd a_mate a_openAt a_wasMark a_lineFirst a_lineSlot a_lineLv a_order a_place := by
  intro n
  induction n with
  | zero => intro i kd _ h; omega
  | succ n ih =>
    intro i kd hi hn h
    by_cases z : L ≤ i
    · have e : i = L := by omega
      subst e
      exact br_t (nI_le z (by omega)) (hC kd (bi_MX_e h))
    · have hv := vp_in_nI (n := i) (N := 32) (by omega) (by omega)
      have hki := bi_MX_hi h (by omega) (Nat.le_refl i)
      have h57 : ∀ kd' : Nat → Int32, (¬ (k i = 3 ∧ bi_S7 f_sos k (i + 1) = 0) → bi_MX L (i + 1) (bi_F7 f_sos (bi_F6 k)) k kd') → (k i = 3 → bi_S7 f_sos k (i + 1) = 0 → bi_MX L (i + 1) (bi_F7 f_sos (bi_F6 k)) k (upd kd' i 0)) → wX_resolveNumbers_57 post (wX_resolveNumbers_7 post f_cap f_depth f_size f_paragraph f_lines f_resolved f_top f_overflowIsolates f_overflowEmbeddings f_validIsolates (nI L) f_seqLevel f_runDir f_sos f_eos f_openCount n) (bi_S7 f_sos k (i + 1)) (nI i) (k i) f_cap f_depth f_size f_paragraph f_lines f_resolved f_top f_overflowIsolates f_overflowEmbeddings f_validIsolates (nI L) f_seqLevel f_runDir f_sos f_eos f_openCount a_text a_breakAfter a_partner a_level a_type a_prevKept a_nextKept a_implicit a_pair a_valid a_taken a_stackLevel a_stackOverride a_stackIsolate a_seq kd' a_mate a_openAt a_wasMark a_lineFirst a_lineSlot a_lineLv a_order a_place := by
        intro kd' m0 m1
        unfold wX_resolveNumbers_57
        rw [nI_clamp (n := i) (by omega)]
        exact br_c (fun q => br_c (fun w => And.intro hv (nm_e (nm_r (nI_1 i) (ih (i + 1) _ (by omega) (by omega) (m1 q w))))) (fun w => nm_r (nI_1 i) (ih (i + 1) _ (by omega) (by omega) (m0 (fun v => w v.2))))) (fun q => nm_r (nI_1 i) (ih (i + 1) _ (by omega) (by omega) (m0 (fun v => q v.1))))
      have h46 : ∀ kd' : Nat → Int32, (¬ (k i = 3 ∧ bi_S7 f_sos k (i + 1) = 0) → bi_MX L (i + 1) (bi_F7 f_sos (bi_F6 k)) k kd') → (k i = 3 → bi_S7 f_sos k (i + 1) = 0 → bi_MX L (i + 1) (bi_F7 f_sos (bi_F6 k)) k (upd kd' i 0)) → wX_resolveNumbers_46 post (wX_resolveNumbers_7 post f_cap f_depth f_size f_paragraph f_lines f_resolved f_top f_overflowIsolates f_overflowEmbeddings f_validIsolates (nI L) f_seqLevel f_runDir f_sos f_eos f_openCount n) (bi_S7 f_sos k i) (nI i) (k i) f_cap f_depth f_size f_paragraph f_lines f_resolved f_top f_overflowIsolates f_overflowEmbeddings f_validIsolates (nI L) f_seqLevel f_runDir f_sos f_eos f_openCount a_text a_breakAfter a_partner a_level a_type a_prevKept a_nextKept a_implicit a_pair a_valid a_taken a_stackLevel a_stackOverride a_stackIsolate a_seq kd' a_mate a_openAt a_wasMark a_lineFirst a_lineSlot a_lineLv a_order a_place := by
        intro kd' m0 m1
        have h57' := h57 kd' m0 m1
        unfold wX_resolveNumbers_46
        have hS : bi_S7 f_sos k (i + 1) = if k i = 0 ∨ k i = 1 then k i else bi_S7 f_sos k i := rfl
        rw [hS] at h57'
        refine br_c (fun q => ?_) (fun q => br_c (fun w => ?_) (fun w => ?_))
        · rw [if_pos (Or.inl q)] at h57'; exact h57'
        · rw [if_pos (Or.inr w)] at h57'; exact h57'
        · rw [if_neg (fun v => v.elim q w)] at h57'; exact h57'
      have hS3 : k i = 3 → bi_S7 f_sos k (i + 1) = bi_S7 f_sos k i := fun q => if_neg (by rw [q]; decide)
      refine br_f (nI_ge (by omega) (by omega)) ?_
      rw [nI_clamp (n := i) (by omega), hki]
      have h38 : (k i = 4 ∨ k i = 5 ∨ k i = 7) → wX_resolveNumbers_38 post (wX_resolveNumbers_7 post f_cap f_depth f_size f_paragraph f_lines f_resolved f_top f_overflowIsolates f_overflowEmbeddings f_validIsolates (nI L) f_seqLevel f_runDir f_sos f_eos f_openCount n) (bi_S7 f_sos k i) (nI i) (k i) f_cap f_depth f_size f_paragraph f_lines f_resolved f_top f_overflowIsolates f_overflowEmbeddings f_validIsolates (nI L) f_seqLevel f_runDir f_sos f_eos f_openCount a_text a_breakAfter a_partner a_level a_type a_prevKept a_nextKept a_implicit a_pair a_valid a_taken a_stackLevel a_stackOverride a_stackIsolate a_seq kd a_mate a_openAt a_wasMark a_lineFirst a_lineSlot a_lineLv a_order a_place := by
        intro q
        have n3 : ¬ k i = 3 := by rcases q with q | q | q <;> rw [q] <;> decide
        unfold wX_resolveNumbers_38
        rw [nI_clamp (n := i) (by omega)]
        refine And.intro hv (nm_e (h46 _ (fun _ => bi_MX_u h ?_) (fun w => absurd w n3)))
        unfold bi_F7 bi_F6
        rw [if_pos q, if_neg (fun v => absurd v.1 (by decide))]
      refine And.intro hv (nm_e (br_c (fun q => h38 (Or.inl q)) (fun q => br_c (fun w => h38 (Or.inr (Or.inl w))) (fun w => br_c (fun v => h38 (Or.inr (Or.inr v))) (fun v => ?_)))))
      have e6 : bi_F6 k i = k i := if_neg (fun u => u.elim q (fun u => u.elim w v))
      refine h46 kd (fun u => bi_MX_s h (fun _ => ?_)) (fun u1 u2 => bi_MX_u h ?_)
      · unfold bi_F7
        rw [e6, bi_S7_F6, if_neg (fun t => u ⟨t.1, by rw [hS3 t.1]; exact t.2⟩)]
      · unfold bi_F7
        rw [e6, bi_S7_F6, if_pos ⟨u1, by rw [← hS3 u1]; exact u2⟩]
theorem bx_num {post : SX → Prop} {L : Nat} {k : Nat → Int32} (hL : L ≤ 32) (hk : ∀ j, j < L → a_kind j = k j) (hC : ∀ kd : Nat → Int32, (∀ j, j < L → kd j = bi_F7 f_sos (bi_F6 k) j) → post (f_cap, f_depth, f_size, f_paragraph, f_lines, f_resolved, f_top, f_overflowIsolates, f_overflowEmbeddings, f_validIsolates, nI L, f_seqLevel, f_runDir, f_sos, f_eos, f_openCount, a_text, a_breakAfter, a_partner, a_level, a_type, a_prevKept, a_nextKept, a_implicit, a_pair, a_valid, a_taken, a_stackLevel, a_stackOverride, a_stackIsolate, a_seq, kd, a_mate, a_openAt, a_wasMark, a_lineFirst, a_lineSlot, a_lineLv, a_order, a_place)) : wpX_resolveNumbers post (f_cap, f_depth, f_size, f_paragraph, f_lines, f_resolved, f_top, f_overflowIsolates, f_overflowEmbeddings, f_validIsolates, nI L, f_seqLevel, f_runDir, f_sos, f_eos, f_openCount, a_text, a_breakAfter, a_partner, a_level, a_type, a_prevKept, a_nextKept, a_implicit, a_pair, a_valid, a_taken, a_stackLevel, a_stackOverride, a_stackIsolate, a_seq, a_kind, a_mate, a_openAt, a_wasMark, a_lineFirst, a_lineSlot, a_lineLv, a_order, a_place) :=
  Exists.intro 33 (bx_num_loop hL hC 33 0 a_kind (by omega) (by omega) (bi_MX_0 hk))
end
end
section
/-! the reference's weak rules -/
def bi_er (x y so : Int32) (kd : Nat → Int32) : Nat → Int32
  | 0 => so
  | j + 1 => if kd j = 0 ∨ kd j = 1 ∨ kd j = x ∨ kd j = y then kd j else bi_er x y so kd j
theorem bi_er_c {x y so : Int32} {kd kd' : Nat → Int32} : ∀ {i : Nat}, (∀ j, j < i → kd j = kd' j) → bi_er x y so kd i = bi_er x y so kd' i
  | 0, _ => rfl
  | i + 1, h => by
    simp only [bi_er]
    rw [h i (by omega), bi_er_c (i := i) (fun j hj => h j (by omega))]
def bi_lw (so : Int32) (kd : Nat → Int32) : Nat → Int32
  | 0 => so
  | j + 1 => if kd j = 5 then bi_lw so kd j else kd j
theorem bi_lw_c {so : Int32} {kd kd' : Nat → Int32} : ∀ {i : Nat}, (∀ j, j < i → kd j = kd' j) → bi_lw so kd i = bi_lw so kd' i
  | 0, _ => rfl
  | i + 1, h => by
    simp only [bi_lw]
    rw [h i (by omega), bi_lw_c (i := i) (fun j hj => h j (by omega))]
theorem bi_lw_l5 {so : Int32} {k : Nat → Int32} {L : Nat} (hs : ¬ so = 3) : ∀ {j : Nat}, j ≤ L → ¬ bi_r5 k L j = 3 → (bi_lw so (bi_F5 L k) j = 3 ↔ bi_l5 k j = 3)
  | 0, _, _ => ⟨fun h => absurd h hs, fun h => absurd h (by unfold bi_l5; decide)⟩
  | j + 1, hj, hr => by
    simp only [bi_lw, bi_l5]
    by_cases q : k j = 5
    · have e2 : bi_r5 k L j = bi_r5 k L (j + 1) := by rw [bi_r5_eq (by omega), if_pos q]
      rw [← e2] at hr
      have ih := bi_lw_l5 hs (k := k) (L := L) (j := j) (by omega) hr
      rw [if_pos q, bi_F5_5 q]
      by_cases w : bi_l5 k j = 3
      · rw [if_pos (Or.inl w), if_neg (by decide)]
        exact ⟨fun _ => w, fun _ => rfl⟩
      · have n : ¬ (bi_l5 k j = 3 ∨ bi_r5 k L j = 3) := fun v => v.elim w hr
        rw [if_neg n, if_pos rfl]
        exact ih
    · rw [if_neg q, bi_F5_n q, if_neg q]
def bi_rwf (eo : Int32) (kd : Nat → Int32) (L : Nat) : Nat → Int32
  | 0 => eo
  | f + 1 => if kd (L - (f + 1)) = 5 then bi_rwf eo kd L f else kd (L - (f + 1))
def bi_rw (eo : Int32) (kd : Nat → Int32) (L j : Nat) : Int32 := bi_rwf eo kd L (L - j)
theorem bi_rw_end {eo : Int32} {kd : Nat → Int32} {L j : Nat} (h : L ≤ j) : bi_rw eo kd L j = eo := by
  unfold bi_rw
  rw [show L - j = 0 by omega]; rfl
theorem bi_rw_eq {eo : Int32} {kd : Nat → Int32} {L j : Nat} (h : j < L) : bi_rw eo kd L j = if kd j = 5 then bi_rw eo kd L (j + 1) else kd j := by
  unfold bi_rw
  have e : L - j = L - (j + 1) + 1 := by omega
  rw [e]
  have e2 : L - (L - (j + 1) + 1) = j := by omega
  rw [bi_rwf, e2]
theorem bi_rw_r5 {eo : Int32} {k kd : Nat → Int32} {L i : Nat} (he : ¬ eo = 3) (h : ∀ j, i ≤ j → j < L → kd j = k j) : ∀ {d j : Nat}, L - j = d → i ≤ j → (bi_rw eo kd L j = 3 ↔ bi_r5 k L j = 3) := by
  intro d
  induction d with
  | zero => intro j h1 h2; rw [bi_rw_end (by omega), bi_r5_end (by omega)]; exact ⟨fun z => absurd z he, fun z => absurd z (by decide)⟩
  | succ d ih =>
    intro j h1 h2
    rw [bi_rw_eq (by omega), bi_r5_eq (by omega), h j h2 (by omega)]
    by_cases q : k j = 5
    · rw [if_pos q, if_pos q]; exact ih (by omega) (by omega)
    · rw [if_neg q, if_neg q]
theorem bi_er_S2 {so : Int32} {k : Nat → Int32} {L : Nat} (hs : so = 0 ∨ so = 1) (h0 : ∀ j, j < L → ¬ k j < 0) : ∀ {j : Nat}, j ≤ L → (bi_er 2 2 so (bi_F2 k) j = 2 ↔ bi_S2 k j = 2)
  | 0, _ => by
    simp only [bi_er, bi_S2]
    rcases hs with q | q <;> rw [q] <;> decide
  | j + 1, hj => by
    have ih := bi_er_S2 hs h0 (j := j) (by omega)
    simp only [bi_er, bi_S2]
    by_cases q : 2 < k j
    · have n : ¬ (bi_F2 k j = 0 ∨ bi_F2 k j = 1 ∨ bi_F2 k j = 2 ∨ bi_F2 k j = 2) := by
        unfold bi_F2
        by_cases w : k j = 3 ∧ bi_S2 k j = 2
        · rw [if_pos w]; decide
        · rw [if_neg w]
          intro v
          rcases v with v | v | v | v <;> rw [v] at q <;> exact absurd q (by decide)
      rw [if_pos q, if_neg n]; exact ih
    · have w : ¬ k j = 3 := fun w => by rw [w] at q; exact absurd (by decide) q
      have e : bi_F2 k j = k j := if_neg (fun v => w v.1)
      rw [if_neg q, e]
      have c : k j = 0 ∨ k j = 1 ∨ k j = 2 ∨ k j = 2 := by
        have a := h0 j (by omega)
        rw [Int32.lt_iff_toInt_lt] at a q
        rw [show (0 : Int32).toInt = 0 by decide] at a
        rw [show (2 : Int32).toInt = 2 by decide] at q
        have : (k j).toInt = 0 ∨ (k j).toInt = 1 ∨ (k j).toInt = 2 := by omega
        rcases this with v | v | v
        · exact Or.inl (Int32.toInt_inj.mp (by rw [v]; decide))
        · exact Or.inr (Or.inl (Int32.toInt_inj.mp (by rw [v]; decide)))
        · exact Or.inr (Or.inr (Or.inl (Int32.toInt_inj.mp (by rw [v]; decide))))
      rw [if_pos c]
theorem bi_er_S7 {so : Int32} {k : Nat → Int32} : ∀ {j : Nat}, bi_er 0 0 so (bi_F7 so k) j = bi_S7 so k j
  | 0 => rfl
  | j + 1 => by
    have ih := bi_er_S7 (so := so) (k := k) (j := j)
    simp only [bi_er, bi_S7]
    by_cases q : k j = 0 ∨ k j = 1
    · have e : bi_F7 so k j = k j := if_neg (fun v => by rcases q with q | q <;> rw [q] at v <;> exact absurd v.1 (by decide))
      rw [if_pos q, e]
      rcases q with q | q
      · rw [if_pos (Or.inl q)]
      · rw [if_pos (Or.inr (Or.inl q))]
    · rw [if_neg q]
      by_cases w : k j = 3 ∧ bi_S7 so k j = 0
      · have e : bi_F7 so k j = 0 := if_pos w
        rw [e, if_pos (Or.inl rfl), w.2]
      · have e : bi_F7 so k j = k j := if_neg w
        have n : ¬ (k j = 0 ∨ k j = 1 ∨ k j = 0 ∨ k j = 0) := fun v => v.elim (fun a => q (Or.inl a)) (fun v => v.elim (fun a => q (Or.inr a)) (fun v => v.elim (fun a => q (Or.inl a)) (fun a => q (Or.inl a))))
        rw [e, if_neg n]; exact ih
def bi_SQ (L : Nat) (s : Nat → Nat) (sq : Nat → Int32) : Prop := (∀ k, k < L → sq k = nI (s k) ∧ s k < 32) ∧ (∀ a b, a < L → b < L → s a = s b → a = b)
section
variable {g_cap g_depth g_len g_para g_count g_e g_way g_sos g_eos g_done : Int32} {b_text b_cut b_pair b_res b_level b_over b_type b_first b_seq b_open b_stLevel b_stOver b_stIso : Nat → Int32}
theorem by_ty_in {post : Int32 → Prop} {L j : Nat} {s : Nat → Nat} (hL : L ≤ 32) (hq : bi_SQ L s b_seq) (hj : j < L) (k : post (b_type (s j))) : wpY_typeAt post (g_cap, g_depth, g_len, g_para, nI L, g_e, g_way, g_sos, g_eos, g_done, b_text, b_cut, b_pair, b_res, b_level, b_over, b_type, b_first, b_seq, b_open, b_stLevel, b_stOver, b_stIso) (nI j) := by
  obtain ⟨q1, q2⟩ := hq.1 j hj
  unfold wpY_typeAt
  refine br_t (nI_pos' (by omega)) (br_t (nI_lt hj (by omega)) (And.intro (vp_in_nI (by omega) (by omega)) ?_))
  rw [nI_clamp (n := j) (by omega), q1, nI_clamp (n := s j) (by omega)]
  exact And.intro (vp_in_nI q2 (by omega)) k
theorem by_ty_end {post : Int32 → Prop} {L j : Nat} (hL : L ≤ 32) (hj : L ≤ j) (hj2 : j < 2 ^ 31) (k : post g_eos) : wpY_typeAt post (g_cap, g_depth, g_len, g_para, nI L, g_e, g_way, g_sos, g_eos, g_done, b_text, b_cut, b_pair, b_res, b_level, b_over, b_type, b_first, b_seq, b_open, b_stLevel, b_stOver, b_stIso) (nI j) :=
  br_t (nI_pos' hj2) (br_f (nI_nlt hj hj2) k)
theorem by_ty_m {post : Int32 → Prop} {x : Int32} (hx : ¬ 0 ≤ x) (k : post g_sos) : wpY_typeAt post (g_cap, g_depth, g_len, g_para, g_count, g_e, g_way, g_sos, g_eos, g_done, b_text, b_cut, b_pair, b_res, b_level, b_over, b_type, b_first, b_seq, b_open, b_stLevel, b_stOver, b_stIso) x := br_f hx k
theorem by_er_loop {post : Int32 → Prop} {L : Nat} {s : Nat → Nat} {kd : Nat → Int32} {x y : Int32} (hL : L ≤ 32) (hq : bi_SQ L s b_seq) (hk : ∀ j, j < L → b_type (s j) = kd j) : ∀ (j : Nat), j ≤ L → post (bi_er x y g_sos kd j) → wY_earlier_5 post x y g_cap g_depth g_len g_para (nI L) g_e g_way g_sos g_eos g_done b_text b_cut b_pair b_res b_level b_over b_type b_first b_seq b_open b_stLevel b_stOver b_stIso (j + 1) (nI j + (-1)) := by
  intro j
  induction j with
  | zero => intro _ k; exact br_t (by decide) k
  | succ j ih =>
    intro hj k
    rw [pk_m1]
    simp only [bi_er] at k
    refine br_f (nI_pos (by omega)) (by_ty_in hL hq (by omega) ?_)
    rw [hk j (by omega)]
    by_cases z : kd j = 0 ∨ kd j = 1 ∨ kd j = x ∨ kd j = y
    · rw [if_pos z] at k
      exact br_c (fun _ => k) (fun z0 => br_c (fun _ => k) (fun z1 => br_c (fun _ => k) (fun z2 => br_c (fun _ => k) (fun z3 => absurd z (fun w => w.elim z0 (fun w => w.elim z1 (fun w => w.elim z2 z3)))))))
    · rw [if_neg z] at k
      exact br_f (fun w => z (Or.inl w)) (br_f (fun w => z (Or.inr (Or.inl w))) (br_f (fun w => z (Or.inr (Or.inr (Or.inl w)))) (br_f (fun w => z (Or.inr (Or.inr (Or.inr w)))) (nm_e (ih (by omega) k)))))
theorem by_er {post : Int32 → Prop} {L i : Nat} {s : Nat → Nat} {kd : Nat → Int32} {x y : Int32} (hL : L ≤ 32) (hi : i ≤ L) (hq : bi_SQ L s b_seq) (hk : ∀ j, j < L → b_type (s j) = kd j) (k : post (bi_er x y g_sos kd i)) : wpY_earlier post (g_cap, g_depth, g_len, g_para, nI L, g_e, g_way, g_sos, g_eos, g_done, b_text, b_cut, b_pair, b_res, b_level, b_over, b_type, b_first, b_seq, b_open, b_stLevel, b_stOver, b_stIso) (nI i) x y :=
  nm_r (bi_sm1 (nI i)) (Exists.intro (i + 1) (by_er_loop hL hq hk i hi k))
/-! falling through the rules -/
theorem by_f257 {post : Int32 → Prop} {r i x : Int32} (h7 : ¬ r = 7) (k : post x) : wY_weak_257 post r i x g_cap g_depth g_len g_para g_count g_e g_way g_sos g_eos g_done b_text b_cut b_pair b_res b_level b_over b_type b_first b_seq b_open b_stLevel b_stOver b_stIso := br_f h7 k
theorem by_f232 {post : Int32 → Prop} {r i x : Int32} (h6 : ¬ r = 6) (k : wY_weak_257 post r i x g_cap g_depth g_len g_para g_count g_e g_way g_sos g_eos g_done b_text b_cut b_pair b_res b_level b_over b_type b_first b_seq b_open b_stLevel b_stOver b_stIso) : wY_weak_232 post r i x g_cap g_depth g_len g_para g_count g_e g_way g_sos g_eos g_done b_text b_cut b_pair b_res b_level b_over b_type b_first b_seq b_open b_stLevel b_stOver b_stIso := br_f h6 k
theorem by_f150 {post : Int32 → Prop} {r i x a b : Int32} (h5 : ¬ r = 5) (k : wY_weak_232 post r i x g_cap g_depth g_len g_para g_count g_e g_way g_sos g_eos g_done b_text b_cut b_pair b_res b_level b_over b_type b_first b_seq b_open b_stLevel b_stOver b_stIso) : wY_weak_150 post r i x a b g_cap g_depth g_len g_para g_count g_e g_way g_sos g_eos g_done b_text b_cut b_pair b_res b_level b_over b_type b_first b_seq b_open b_stLevel b_stOver b_stIso := br_f h5 k
theorem by_f122 {post : Int32 → Prop} {r i x p q a b : Int32} (h4 : ¬ r = 4) (k : wY_weak_150 post r i x a b g_cap g_depth g_len g_para g_count g_e g_way g_sos g_eos g_done b_text b_cut b_pair b_res b_level b_over b_type b_first b_seq b_open b_stLevel b_stOver b_stIso) : wY_weak_122 post r i x p q a b g_cap g_depth g_len g_para g_count g_e g_way g_sos g_eos g_done b_text b_cut b_pair b_res b_level b_over b_type b_first b_seq b_open b_stLevel b_stOver b_stIso := br_f h4 k
theorem by_f92 {post : Int32 → Prop} {r i x p q a b : Int32} (h4 : ¬ r = 4) (k : wY_weak_122 post r i x p q a b g_cap g_depth g_len g_para g_count g_e g_way g_sos g_eos g_done b_text b_cut b_pair b_res b_level b_over b_type b_first b_seq b_open b_stLevel b_stOver b_stIso) : wY_weak_92 post r i x p q a b g_cap g_depth g_len g_para g_count g_e g_way g_sos g_eos g_done b_text b_cut b_pair b_res b_level b_over b_type b_first b_seq b_open b_stLevel b_stOver b_stIso := br_f h4 k
theorem by_f80 {post : Int32 → Prop} {r i x p q a b : Int32} (h3 : ¬ r = 3) (k : wY_weak_92 post r i x p q a b g_cap g_depth g_len g_para g_count g_e g_way g_sos g_eos g_done b_text b_cut b_pair b_res b_level b_over b_type b_first b_seq b_open b_stLevel b_stOver b_stIso) : wY_weak_80 post r i x p q a b g_cap g_depth g_len g_para g_count g_e g_way g_sos g_eos g_done b_text b_cut b_pair b_res b_level b_over b_type b_first b_seq b_open b_stLevel b_stOver b_stIso := br_f h3 k
theorem by_f56 {post : Int32 → Prop} {r i x p q a b : Int32} (h2 : ¬ r = 2) (k : wY_weak_80 post r i x p q a b g_cap g_depth g_len g_para g_count g_e g_way g_sos g_eos g_done b_text b_cut b_pair b_res b_level b_over b_type b_first b_seq b_open b_stLevel b_stOver b_stIso) : wY_weak_56 post r i x p q a b g_cap g_depth g_len g_para g_count g_e g_way g_sos g_eos g_done b_text b_cut b_pair b_res b_level b_over b_type b_first b_seq b_open b_stLevel b_stOver b_stIso := br_f h2 k
theorem by_weak0 {post : Int32 → Prop} {L i : Nat} {s : Nat → Nat} {kd : Nat → Int32} {r : Int32} (hL : L ≤ 32) (hi : i < L) (hq : bi_SQ L s b_seq) (hk : ∀ j, j < L → b_type (s j) = kd j)
    (k : ∀ p n : Int32, p = (if i = 0 then g_sos else kd (i - 1)) → n = (if i + 1 < L then kd (i + 1) else g_eos) → (r = 1 → kd i = 8 → p < 19 → post p) ∧ (r = 1 → kd i = 8 → ¬ p < 19 → post 13) ∧ (¬ (r = 1 ∧ kd i = 8) → wY_weak_56 post r (nI i) (kd i) p n (nI i) (nI i) g_cap g_depth g_len g_para (nI L) g_e g_way g_sos g_eos g_done b_text b_cut b_pair b_res b_level b_over b_type b_first b_seq b_open b_stLevel b_stOver b_stIso)) : wpY_weak post (g_cap, g_depth, g_len, g_para, nI L, g_e, g_way, g_sos, g_eos, g_done, b_text, b_cut, b_pair, b_res, b_level, b_over, b_type, b_first, b_seq, b_open, b_stLevel, b_stOver, b_stIso) r (nI i) := by
  unfold wpY_weak
  refine by_ty_in hL hq hi ?_
  rw [hk i hi]
  have go : ∀ p : Int32, p = (if i = 0 then g_sos else kd (i - 1)) → wpY_typeAt (fun r_49 => (((r = 1 → (((kd i = 8 → (((p < 19 → (post p)) ∧ (¬ p < 19 → (post 13))))) ∧ (¬ kd i = 8 → (wY_weak_56 post r (nI i) (kd i) p r_49 (nI i) (nI i) g_cap g_depth g_len g_para (nI L) g_e g_way g_sos g_eos g_done b_text b_cut b_pair b_res b_level b_over b_type b_first b_seq b_open b_stLevel b_stOver b_stIso))))) ∧ (¬ r = 1 → (wY_weak_56 post r (nI i) (kd i) p r_49 (nI i) (nI i) g_cap g_depth g_len g_para (nI L) g_e g_way g_sos g_eos g_done b_text b_cut b_pair b_res b_level b_over b_type b_first b_seq b_open b_stLevel b_stOver b_stIso))))) (g_cap, g_depth, g_len, g_para, nI L, g_e, g_way, g_sos, g_eos, g_done, b_text, b_cut, b_pair, b_res, b_level, b_over, b_type, b_first, b_seq, b_open, b_stLevel, b_stOver, b_stIso) (nI i + 1) := by
    intro p hp
    have fin : ∀ n : Int32, n = (if i + 1 < L then kd (i + 1) else g_eos) → ((r = 1 → (((kd i = 8 → (((p < 19 → (post p)) ∧ (¬ p < 19 → (post 13))))) ∧ (¬ kd i = 8 → (wY_weak_56 post r (nI i) (kd i) p n (nI i) (nI i) g_cap g_depth g_len g_para (nI L) g_e g_way g_sos g_eos g_done b_text b_cut b_pair b_res b_level b_over b_type b_first b_seq b_open b_stLevel b_stOver b_stIso))))) ∧ (¬ r = 1 → (wY_weak_56 post r (nI i) (kd i) p n (nI i) (nI i) g_cap g_depth g_len g_para (nI L) g_e g_way g_sos g_eos g_done b_text b_cut b_pair b_res b_level b_over b_type b_first b_seq b_open b_stLevel b_stOver b_stIso))) := by
      intro n hn
      obtain ⟨a1, a2, a3⟩ := k p n hp hn
      exact br_c (fun q => br_c (fun w => br_c (fun v => a1 q w v) (fun v => a2 q w v)) (fun w => a3 (fun v => w v.2))) (fun q => a3 (fun v => q v.1))
    rw [nI_1]
    by_cases z : i + 1 < L
    · refine by_ty_in hL hq z ?_
      rw [hk _ z]
      exact fin _ (if_pos z).symm
    · exact by_ty_end hL (by omega) (by omega) (fin _ (if_neg z).symm)
  by_cases z : i = 0
  · subst z
    exact by_ty_m (by decide) (go _ (if_pos rfl).symm)
  · rw [bi_p1 (by omega)]
    refine by_ty_in hL hq (by omega) ?_
    rw [hk _ (by omega)]
    exact go _ (if_neg z).symm
theorem by_rule1 {post : Int32 → Prop} {L i : Nat} {s : Nat → Nat} {k kd : Nat → Int32} (hL : L ≤ 32) (hi : i < L) (hs : g_sos = 0 ∨ g_sos = 1) (hq : bi_SQ L s b_seq) (hk : ∀ j, j < L → b_type (s j) = kd j) (h : bi_MX L i (bi_F1 g_sos k) k kd) (c : post (bi_F1 g_sos k i)) : wpY_weak post (g_cap, g_depth, g_len, g_para, nI L, g_e, g_way, g_sos, g_eos, g_done, b_text, b_cut, b_pair, b_res, b_level, b_over, b_type, b_first, b_seq, b_open, b_stLevel, b_stOver, b_stIso) 1 (nI i) := by
  have hki := bi_MX_hi h hi (Nat.le_refl i)
  have hlt : g_sos < 19 := by rcases hs with q | q <;> rw [q] <;> decide
  refine by_weak0 hL hi hq hk (fun p n hp hn => ⟨fun _ q w => ?_, fun _ q w => ?_, fun q => ?_⟩)
  · rw [hki] at q
    cases i with
    | zero =>
      rw [if_pos rfl] at hp
      simp only [bi_F1] at c; rw [if_pos q] at c
      rw [hp]; exact c
    | succ j =>
      rw [if_neg (by omega), Nat.add_sub_cancel, bi_MX_lo h (by omega) (by omega)] at hp
      simp only [bi_F1] at c; rw [if_pos q, ← hp, if_pos w] at c; exact c
  · rw [hki] at q
    cases i with
    | zero =>
      rw [if_pos rfl] at hp
      rw [hp] at w; exact absurd hlt w
    | succ j =>
      rw [if_neg (by omega), Nat.add_sub_cancel, bi_MX_lo h (by omega) (by omega)] at hp
      simp only [bi_F1] at c; rw [if_pos q, ← hp, if_neg w] at c; exact c
  · have q' : ¬ k i = 8 := fun w => q ⟨rfl, by rw [hki]; exact w⟩
    have e : bi_F1 g_sos k i = k i := by
      cases i with
      | zero => simp only [bi_F1]; rw [if_neg q']
      | succ j => simp only [bi_F1]; rw [if_neg q']
    rw [e, ← hki] at c
    exact by_f56 (by decide) (by_f80 (by decide) (by_f92 (by decide) (by_f122 (by decide) (by_f150 (by decide) (by_f232 (by decide) (by_f257 (by decide) c))))))
theorem by_rule2 {post : Int32 → Prop} {L i : Nat} {s : Nat → Nat} {k kd : Nat → Int32} (hL : L ≤ 32) (hi : i < L) (hs : g_sos = 0 ∨ g_sos = 1) (h0 : ∀ j, j < L → ¬ k j < 0) (hq : bi_SQ L s b_seq) (hk : ∀ j, j < L → b_type (s j) = kd j) (h : bi_MX L i (bi_F2 k) k kd) (c : post (bi_F2 k i)) : wpY_weak post (g_cap, g_depth, g_len, g_para, nI L, g_e, g_way, g_sos, g_eos, g_done, b_text, b_cut, b_pair, b_res, b_level, b_over, b_type, b_first, b_seq, b_open, b_stLevel, b_stOver, b_stIso) 2 (nI i) := by
  have hki := bi_MX_hi h hi (Nat.le_refl i)
  refine by_weak0 hL hi hq hk (fun p n hp hn => ⟨fun q => absurd q (by decide), fun q => absurd q (by decide), fun _ => br_t rfl ?_⟩)
  have rest : ¬ (k i = 3 ∧ bi_S2 k i = 2) → wY_weak_80 post 2 (nI i) (kd i) p n (nI i) (nI i) g_cap g_depth g_len g_para (nI L) g_e g_way g_sos g_eos g_done b_text b_cut b_pair b_res b_level b_over b_type b_first b_seq b_open b_stLevel b_stOver b_stIso := by
    intro q
    have e : bi_F2 k i = k i := if_neg q
    rw [e, ← hki] at c
    exact by_f80 (by decide) (by_f92 (by decide) (by_f122 (by decide) (by_f150 (by decide) (by_f232 (by decide) (by_f257 (by decide) c)))))
  refine br_c (fun q => by_er hL (by omega) hq hk ?_) (fun q => rest (fun w => q (by rw [hki]; exact w.1)))
  rw [hki] at q
  have e : bi_er 2 2 g_sos kd i = bi_er 2 2 g_sos (bi_F2 k) i := bi_er_c (fun j hj => bi_MX_lo h (by omega) hj)
  rw [e]
  have eq := bi_er_S2 hs h0 (j := i) (by omega)
  refine br_c (fun w => ?_) (fun w => rest (fun v => w (eq.mpr v.2)))
  have e2 : bi_F2 k i = 6 := if_pos ⟨q, eq.mp w⟩
  rw [e2] at c; exact c
theorem by_rule3 {post : Int32 → Prop} {L i : Nat} {s : Nat → Nat} {k kd : Nat → Int32} (hL : L ≤ 32) (hi : i < L) (hq : bi_SQ L s b_seq) (hk : ∀ j, j < L → b_type (s j) = kd j) (h : bi_MX L i (bi_F3 k) k kd) (c : post (bi_F3 k i)) : wpY_weak post (g_cap, g_depth, g_len, g_para, nI L, g_e, g_way, g_sos, g_eos, g_done, b_text, b_cut, b_pair, b_res, b_level, b_over, b_type, b_first, b_seq, b_open, b_stLevel, b_stOver, b_stIso) 3 (nI i) := by
  have hki := bi_MX_hi h hi (Nat.le_refl i)
  refine by_weak0 hL hi hq hk (fun p n hp hn => ⟨fun q => absurd q (by decide), fun q => absurd q (by decide), fun _ => by_f56 (by decide) (br_t rfl (br_c (fun q => ?_) (fun q => ?_)))⟩)
  · rw [hki] at q
    have e : bi_F3 k i = 1 := if_pos q
    rw [e] at c; exact c
  · rw [hki] at q
    have e : bi_F3 k i = k i := if_neg q
    rw [e, ← hki] at c
    exact by_f92 (by decide) (by_f122 (by decide) (by_f150 (by decide) (by_f232 (by decide) (by_f257 (by decide) c))))
theorem by_rule4 {post : Int32 → Prop} {L i : Nat} {s : Nat → Nat} {k kd : Nat → Int32} (hL : L ≤ 32) (hi : i < L) (hs : g_sos = 0 ∨ g_sos = 1) (he : g_eos = 0 ∨ g_eos = 1) (hq : bi_SQ L s b_seq) (hk : ∀ j, j < L → b_type (s j) = kd j) (h : bi_MX L i (bi_F4 L k) k kd) (c : post (bi_F4 L k i)) : wpY_weak post (g_cap, g_depth, g_len, g_para, nI L, g_e, g_way, g_sos, g_eos, g_done, b_text, b_cut, b_pair, b_res, b_level, b_over, b_type, b_first, b_seq, b_open, b_stLevel, b_stOver, b_stIso) 4 (nI i) := by
  have hki := bi_MX_hi h hi (Nat.le_refl i)
  refine by_weak0 hL hi hq hk (fun p n hp hn => ⟨fun q => absurd q (by decide), fun q => absurd q (by decide), fun _ => by_f56 (by decide) (by_f80 (by decide) ?_)⟩)
  -- the value by the neighbours that the reference sees
  have val : ((p = 3 ∧ n = 3 ∧ (k i = 4 ∨ k i = 7)) → bi_F4 L k i = 3) ∧ ((p = 6 ∧ n = 6 ∧ k i = 7) → bi_F4 L k i = 6) ∧ (¬ (p = 3 ∧ n = 3 ∧ (k i = 4 ∨ k i = 7)) → ¬ (p = 6 ∧ n = 6 ∧ k i = 7) → bi_F4 L k i = k i) := by
    have so3 : ¬ g_sos = 3 := by rcases hs with q | q <;> rw [q] <;> decide
    have so6 : ¬ g_sos = 6 := by rcases hs with q | q <;> rw [q] <;> decide
    have eo3 : ¬ g_eos = 3 := by rcases he with q | q <;> rw [q] <;> decide
    have eo6 : ¬ g_eos = 6 := by rcases he with q | q <;> rw [q] <;> decide
    cases i with
    | zero =>
      rw [if_pos rfl] at hp
      refine ⟨fun v => ?_, fun v => ?_, fun _ _ => rfl⟩
      · rw [hp] at v; exact absurd v.1 so3
      · rw [hp] at v; exact absurd v.1 so6
    | succ j =>
      rw [if_neg (by omega), Nat.add_sub_cancel, bi_MX_lo h (by omega) (by omega)] at hp
      have e64 : ∀ {a : Int32}, a = 6 → ¬ a = 3 := fun {a} e => by rw [e]; decide
      by_cases z : j + 1 + 1 < L
      · rw [if_pos z, bi_MX_hi h z (by omega)] at hn
        simp only [bi_F4]
        refine ⟨fun v => ?_, fun v => ?_, fun v w => ?_⟩
        · rw [if_pos ⟨z, by rw [← hp]; exact v.1, by rw [show j + 2 = j + 1 + 1 by omega, ← hn]; exact v.2.1, v.2.2⟩]
        · have v1 : bi_F4 L k j = 6 := by rw [← hp]; exact v.1
          rw [if_neg (fun u => e64 v1 u.2.1), if_pos ⟨z, v1, by rw [show j + 2 = j + 1 + 1 by omega, ← hn]; exact v.2.1, v.2.2⟩]
        · rw [if_neg (fun u => v ⟨by rw [hp]; exact u.2.1, by rw [hn]; exact u.2.2.1, u.2.2.2⟩), if_neg (fun u => w ⟨by rw [hp]; exact u.2.1, by rw [hn]; exact u.2.2.1, u.2.2.2⟩)]
      · rw [if_neg z] at hn
        refine ⟨fun v => ?_, fun v => ?_, fun _ _ => ?_⟩
        · rw [hn] at v; exact absurd v.2.1 eo3
        · rw [hn] at v; exact absurd v.2.1 eo6
        · simp only [bi_F4]
          rw [if_neg (fun u => by omega), if_neg (fun u => by omega)]
  rw [hki]
  have h122 : ¬ (p = 3 ∧ n = 3 ∧ (k i = 4 ∨ k i = 7)) → wY_weak_122 post 4 (nI i) (k i) p n (nI i) (nI i) g_cap g_depth g_len g_para (nI L) g_e g_way g_sos g_eos g_done b_text b_cut b_pair b_res b_level b_over b_type b_first b_seq b_open b_stLevel b_stOver b_stIso := by
    intro q
    have h150 : ¬ (p = 6 ∧ n = 6 ∧ k i = 7) → wY_weak_150 post 4 (nI i) (k i) (nI i) (nI i) g_cap g_depth g_len g_para (nI L) g_e g_way g_sos g_eos g_done b_text b_cut b_pair b_res b_level b_over b_type b_first b_seq b_open b_stLevel b_stOver b_stIso := by
      intro w
      rw [val.2.2 q w] at c
      exact by_f150 (by decide) (by_f232 (by decide) (by_f257 (by decide) c))
    refine br_t rfl (br_c (fun a => br_c (fun b => br_c (fun d => ?_) (fun d => h150 (fun v => d v.2.1))) (fun b => h150 (fun v => b v.1))) (fun a => h150 (fun v => a v.2.2)))
    rw [val.2.1 ⟨b, d, a⟩] at c; exact c
  have h108 : (k i = 4 ∨ k i = 7) → wY_weak_108 post 4 (nI i) (k i) p n (nI i) (nI i) g_cap g_depth g_len g_para (nI L) g_e g_way g_sos g_eos g_done b_text b_cut b_pair b_res b_level b_over b_type b_first b_seq b_open b_stLevel b_stOver b_stIso := by
    intro q
    refine br_c (fun a => br_c (fun b => ?_) (fun b => h122 (fun v => b v.2.1))) (fun a => h122 (fun v => a v.1))
    rw [val.1 ⟨a, b, q⟩] at c; exact c
  exact br_t rfl (br_c (fun a => h108 (Or.inl a)) (fun a => br_c (fun b => h108 (Or.inr b)) (fun b => h122 (fun v => v.2.2.elim a b))))
theorem by_181 {post : Int32 → Prop} {L : Nat} {s : Nat → Nat} {kd : Nat → Int32} {x6 v : Int32} (hL : L ≤ 32) (hq : bi_SQ L s b_seq) (hk : ∀ j, j < L → b_type (s j) = kd j) (hv : ∀ post' : Int32 → Prop, post' v → wpY_typeAt post' (g_cap, g_depth, g_len, g_para, nI L, g_e, g_way, g_sos, g_eos, g_done, b_text, b_cut, b_pair, b_res, b_level, b_over, b_type, b_first, b_seq, b_open, b_stLevel, b_stOver, b_stIso) x6) :
    ∀ (n j : Nat), L - j < n → j ≤ L → post (if v = 3 ∨ bi_rw g_eos kd L j = 3 then 3 else 5) → wY_weak_181 post x6 g_cap g_depth g_len g_para (nI L) g_e g_way g_sos g_eos g_done b_text b_cut b_pair b_res b_level b_over b_type b_first b_seq b_open b_stLevel b_stOver b_stIso n (nI j) := by
  intro n
  induction n with
  | zero => intro j h; omega
  | succ n ih =>
    intro j hn hj c
    have h206 : ∀ w : Int32, w = bi_rw g_eos kd L j → (∀ post' : Int32 → Prop, post' w → wpY_typeAt post' (g_cap, g_depth, g_len, g_para, nI L, g_e, g_way, g_sos, g_eos, g_done, b_text, b_cut, b_pair, b_res, b_level, b_over, b_type, b_first, b_seq, b_open, b_stLevel, b_stOver, b_stIso) (nI j)) → wY_weak_206 post x6 (nI j) g_cap g_depth g_len g_para (nI L) g_e g_way g_sos g_eos g_done b_text b_cut b_pair b_res b_level b_over b_type b_first b_seq b_open b_stLevel b_stOver b_stIso := by
      intro w hw hw2
      unfold wY_weak_206
      rw [← hw] at c
      refine hv _ (br_c (fun a => ?_) (fun a => hw2 _ (br_c (fun b => ?_) (fun b => ?_))))
      · rw [if_pos (Or.inl a)] at c; exact c
      · rw [if_pos (Or.inr b)] at c; exact c
      · rw [if_neg (fun d => d.elim a b)] at c; exact c
    by_cases z : L ≤ j
    · have e : j = L := by omega
      subst e
      exact br_t (nI_le z (by omega)) (h206 g_eos (bi_rw_end z).symm (fun post' q => by_ty_end hL z (by omega) q))
    · refine br_f (nI_ge (by omega) (by omega)) (by_ty_in hL hq (by omega) ?_)
      rw [hk j (by omega)]
      refine br_c (fun q => nm_r (nI_1 j) (ih (j + 1) (by omega) (by omega) ?_)) (fun q => h206 (kd j) (by rw [bi_rw_eq (by omega), if_neg q]) (fun post' w => by_ty_in hL hq (by omega) (by rw [hk j (by omega)]; exact w)))
      rw [bi_rw_eq (by omega), if_pos q] at c; exact c
theorem by_160 {post : Int32 → Prop} {L i : Nat} {s : Nat → Nat} {kd : Nat → Int32} (hL : L ≤ 32) (hi : i ≤ L) (hq : bi_SQ L s b_seq) (hk : ∀ j, j < L → b_type (s j) = kd j) :
    ∀ (j : Nat), j ≤ L → post (if bi_lw g_sos kd j = 3 ∨ bi_rw g_eos kd L i = 3 then 3 else 5) → wY_weak_160 post (nI i) g_cap g_depth g_len g_para (nI L) g_e g_way g_sos g_eos g_done b_text b_cut b_pair b_res b_level b_over b_type b_first b_seq b_open b_stLevel b_stOver b_stIso (j + 1) (nI j + (-1)) := by
  intro j
  induction j with
  | zero =>
    intro _ c
    exact br_t (by decide) (Exists.intro 34 (by_181 (v := g_sos) hL hq hk (fun post' q => by_ty_m (by decide) q) 34 i (by omega) hi c))
  | succ j ih =>
    intro hj c
    rw [pk_m1]
    refine br_f (nI_pos (by omega)) (by_ty_in hL hq (by omega) ?_)
    rw [hk j (by omega)]
    refine br_c (fun q => nm_e (ih (by omega) ?_)) (fun q => Exists.intro 34 (by_181 (v := kd j) hL hq hk (fun post' w => by_ty_in hL hq (by omega) (by rw [hk j (by omega)]; exact w)) 34 i (by omega) hi ?_))
    · have e : bi_lw g_sos kd (j + 1) = bi_lw g_sos kd j := if_pos q
      rw [e] at c; exact c
    · have e : bi_lw g_sos kd (j + 1) = kd j := if_neg q
      rw [e] at c; exact c
theorem by_160b {post : Int32 → Prop} {L i j : Nat} {s : Nat → Nat} {kd : Nat → Int32} {x6 : Int32} (hL : L ≤ 32) (hi : i ≤ L) (hq : bi_SQ L s b_seq) (hk : ∀ j, j < L → b_type (s j) = kd j) (hj : j ≤ L) (hx : x6 = nI j + (-1)) (c : post (if bi_lw g_sos kd j = 3 ∨ bi_rw g_eos kd L i = 3 then 3 else 5)) : wY_weak_160 post (nI i) g_cap g_depth g_len g_para (nI L) g_e g_way g_sos g_eos g_done b_text b_cut b_pair b_res b_level b_over b_type b_first b_seq b_open b_stLevel b_stOver b_stIso (j + 1) x6 := by
  subst hx
  exact by_160 hL hi hq hk j hj c
theorem by_rule5 {post : Int32 → Prop} {L i : Nat} {s : Nat → Nat} {k kd : Nat → Int32} (hL : L ≤ 32) (hi : i < L) (hs : g_sos = 0 ∨ g_sos = 1) (he : g_eos = 0 ∨ g_eos = 1) (hq : bi_SQ L s b_seq) (hk : ∀ j, j < L → b_type (s j) = kd j) (h : bi_MX L i (bi_F5 L k) k kd) (c : post (bi_F5 L k i)) : wpY_weak post (g_cap, g_depth, g_len, g_para, nI L, g_e, g_way, g_sos, g_eos, g_done, b_text, b_cut, b_pair, b_res, b_level, b_over, b_type, b_first, b_seq, b_open, b_stLevel, b_stOver, b_stIso) 5 (nI i) := by
  have hki := bi_MX_hi h hi (Nat.le_refl i)
  have so3 : ¬ g_sos = 3 := by rcases hs with q | q <;> rw [q] <;> decide
  have eo3 : ¬ g_eos = 3 := by rcases he with q | q <;> rw [q] <;> decide
  refine by_weak0 hL hi hq hk (fun p n hp hn => ⟨fun q => absurd q (by decide), fun q => absurd q (by decide), fun _ => by_f56 (by decide) (by_f80 (by decide) (by_f92 (by decide) (by_f122 (by decide) (br_t rfl (br_c (fun q => Exists.intro (i + 2) ?_) (fun q => ?_))))))⟩)
  · rw [hki] at q
    refine by_160b (j := i + 1) hL (by omega) hq hk (by omega) (pk_m1 i).symm ?_
    have e2 : bi_lw g_sos kd (i + 1) = bi_lw g_sos (bi_F5 L k) i := by
      simp only [bi_lw]
      rw [hki, if_pos q]
      exact bi_lw_c (fun j hj => bi_MX_lo h (by omega) hj)
    have e3 := bi_rw_r5 (k := k) (kd := kd) (L := L) (i := i) eo3 (fun j j1 j2 => bi_MX_hi h j2 j1) (j := i) rfl (Nat.le_refl _)
    rw [bi_F5_5 q] at c
    rw [e2]
    by_cases w : bi_l5 k i = 3 ∨ bi_r5 k L i = 3
    · rw [if_pos w] at c
      have : bi_lw g_sos (bi_F5 L k) i = 3 ∨ bi_rw g_eos kd L i = 3 := by
        by_cases v : bi_r5 k L i = 3
        · exact Or.inr (e3.mpr v)
        · exact Or.inl ((bi_lw_l5 so3 (by omega) v).mpr (w.resolve_right v))
      rw [if_pos this]; exact c
    · rw [if_neg w] at c
      have : ¬ (bi_lw g_sos (bi_F5 L k) i = 3 ∨ bi_rw g_eos kd L i = 3) := by
        intro u
        have v : ¬ bi_r5 k L i = 3 := fun v => w (Or.inr v)
        rcases u with u | u
        · exact w (Or.inl ((bi_lw_l5 so3 (by omega) v).mp u))
        · exact v (e3.mp u)
      rw [if_neg this]; exact c
  · rw [hki] at q
    rw [bi_F5_n q, ← hki] at c
    exact by_f232 (by decide) (by_f257 (by decide) c)
theorem by_rule6 {post : Int32 → Prop} {L i : Nat} {s : Nat → Nat} {k kd : Nat → Int32} (hL : L ≤ 32) (hi : i < L) (hq : bi_SQ L s b_seq) (hk : ∀ j, j < L → b_type (s j) = kd j) (h : bi_MX L i (bi_F6 k) k kd) (c : post (bi_F6 k i)) : wpY_weak post (g_cap, g_depth, g_len, g_para, nI L, g_e, g_way, g_sos, g_eos, g_done, b_text, b_cut, b_pair, b_res, b_level, b_over, b_type, b_first, b_seq, b_open, b_stLevel, b_stOver, b_stIso) 6 (nI i) := by
  have hki := bi_MX_hi h hi (Nat.le_refl i)
  have h13 : (k i = 4 ∨ k i = 5 ∨ k i = 7) → post 13 := fun q => by
    have e : bi_F6 k i = 13 := if_pos q
    rw [e] at c; exact c
  refine by_weak0 hL hi hq hk (fun p n hp hn => ⟨fun q => absurd q (by decide), fun q => absurd q (by decide), fun _ => by_f56 (by decide) (by_f80 (by decide) (by_f92 (by decide) (by_f122 (by decide) (by_f150 (by decide) (br_t rfl ?_)))))⟩)
  rw [hki]
  refine br_c (fun q => h13 (Or.inl q)) (fun q => br_c (fun w => h13 (Or.inr (Or.inl w))) (fun w => br_c (fun v => h13 (Or.inr (Or.inr v))) (fun v => by_f257 (by decide) ?_)))
  have e : bi_F6 k i = k i := if_neg (fun u => u.elim q (fun u => u.elim w v))
  rw [e] at c; exact c
theorem by_rule7 {post : Int32 → Prop} {L i : Nat} {s : Nat → Nat} {k kd : Nat → Int32} (hL : L ≤ 32) (hi : i < L) (hq : bi_SQ L s b_seq) (hk : ∀ j, j < L → b_type (s j) = kd j) (h : bi_MX L i (bi_F7 g_sos k) k kd) (c : post (bi_F7 g_sos k i)) : wpY_weak post (g_cap, g_depth, g_len, g_para, nI L, g_e, g_way, g_sos, g_eos, g_done, b_text, b_cut, b_pair, b_res, b_level, b_over, b_type, b_first, b_seq, b_open, b_stLevel, b_stOver, b_stIso) 7 (nI i) := by
  have hki := bi_MX_hi h hi (Nat.le_refl i)
  refine by_weak0 hL hi hq hk (fun p n hp hn => ⟨fun q => absurd q (by decide), fun q => absurd q (by decide), fun _ => by_f56 (by decide) (by_f80 (by decide) (by_f92 (by decide) (by_f122 (by decide) (by_f150 (by decide) (by_f232 (by decide) (br_t rfl ?_))))))⟩)
  rw [hki]
  refine br_c (fun q => by_er hL (by omega) hq hk ?_) (fun q => ?_)
  · have e : bi_er 0 0 g_sos kd i = bi_S7 g_sos k i := by rw [bi_er_c (kd' := bi_F7 g_sos k) (fun j hj => bi_MX_lo h (by omega) hj), bi_er_S7]
    rw [e]
    refine br_c (fun w => ?_) (fun w => ?_)
    · have e : bi_F7 g_sos k i = 0 := if_pos ⟨q, w⟩
      rw [e] at c; exact c
    · have e : bi_F7 g_sos k i = k i := if_neg (fun v => w v.2)
      rw [e] at c; exact c
  · have e : bi_F7 g_sos k i = k i := if_neg (fun v => q v.1)
    rw [e] at c; exact c
/-! a pass, and all seven -/
theorem by_pass {post : SY → Prop} {J : Int32 →  (Nat → Int32) → (Nat → Int32) → (Nat → Int32) → (Nat → Int32) → (Nat → Int32) → (Nat → Int32) → (Nat → Int32) → (Nat → Int32) → (Nat → Int32) → (Nat → Int32) → (Nat → Int32) → (Nat → Int32) → (Nat → Int32) →  Prop} {L r : Nat} {s : Nat → Nat} {G k ty0 : Nat → Int32} (hL : L ≤ 32) (hq : bi_SQ L s b_seq)
    (hw : ∀ (i : Nat) (ty : Nat → Int32), i < L → bi_MX L i G k (fun j => ty (s j)) → ∀ post' : Int32 → Prop, post' (G i) → wpY_weak post' (g_cap, g_depth, g_len, g_para, nI L, g_e, g_way, g_sos, g_eos, g_done, b_text, b_cut, b_pair, b_res, b_level, b_over, ty, b_first, b_seq, b_open, b_stLevel, b_stOver, b_stIso) (nI r) (nI i))
    (hC : ∀ ty : Nat → Int32, (∀ j, j < L → ty (s j) = G j) → (∀ p, (∀ j, j < L → p ≠ s j) → ty p = ty0 p) → J (nI (r + 1)) b_text b_cut b_pair b_res b_level b_over ty b_first b_seq b_open b_stLevel b_stOver b_stIso) :
    ∀ (n i : Nat) (ty : Nat → Int32), L - i < n → i ≤ L → bi_MX L i G k (fun j => ty (s j)) → (∀ p, (∀ j, j < L → p ≠ s j) → ty p = ty0 p) → wY_sequence_163 post J (nI r) g_cap g_depth g_len g_para (nI L) g_e g_way g_sos g_eos g_done n (nI i) b_text b_cut b_pair b_res b_level b_over ty b_first b_seq b_open b_stLevel b_stOver b_stIso := by
  intro n
  induction n with
  | zero => intro i ty h; omega
  | succ n ih =>
    intro i ty hn hi h hf
    by_cases z : L ≤ i
    · have e : i = L := by omega
      subst e
      exact br_t (nI_le z (by omega)) (nm_r (nI_1 r) (hC ty (bi_MX_e h) hf))
    · obtain ⟨q1, q2⟩ := hq.1 i (by omega)
      refine br_f (nI_ge (by omega) (by omega)) ?_
      rw [nI_clamp (n := i) (by omega), q1, nI_clamp (n := s i) (by omega)]
      refine And.intro (vp_in_nI (by omega) (by omega)) (hw i ty (by omega) h _ (And.intro (vp_in_nI q2 (by omega)) (nm_e (nm_r (nI_1 i) (ih (i + 1) _ (by omega) (by omega) ?_ (fun p hp => ?_))))))
      · have e : (fun j => upd ty (s i) (G i) (s j)) = fun j => if j < L then upd (fun j => ty (s j)) i (G i) j else upd ty (s i) (G i) (s j) := by
          funext j
          by_cases w : j < L
          · rw [if_pos w]
            by_cases v : j = i
            · rw [v, pk_us, pk_us]
            · rw [pk_un v, pk_un (fun u => v (hq.2 j i w (by omega) u))]
          · rw [if_neg w]
        intro j hj
        have h2 := bi_MX_u h (v := G i) rfl j hj
        have e2 : (fun j => upd ty (s i) (G i) (s j)) j = upd (fun j => ty (s j)) i (G i) j := by rw [e]; exact if_pos hj
        rw [e2]; exact h2
      · rw [pk_un (hp i (by omega))]; exact hf p hp
theorem by_rules {post : SY → Prop} {L : Nat} {s : Nat → Nat} {k : Nat → Int32} (hL : L ≤ 32) (hs : g_sos = 0 ∨ g_sos = 1) (he : g_eos = 0 ∨ g_eos = 1) (hk0 : ∀ j, j < L → bi_k0 (k j)) (hq : bi_SQ L s b_seq) (hk : ∀ j, j < L → b_type (s j) = k j)
    (hC : ∀ ty : Nat → Int32, (∀ j, j < L → ty (s j) = bi_W g_sos L k j) → (∀ p, (∀ j, j < L → p ≠ s j) → ty p = b_type p) → wY_sequence_153 post g_cap g_depth g_len g_para (nI L) g_e g_way g_sos g_eos g_done 1 8 b_text b_cut b_pair b_res b_level b_over ty b_first b_seq b_open b_stLevel b_stOver b_stIso) : wY_sequence_153 post g_cap g_depth g_len g_para (nI L) g_e g_way g_sos g_eos g_done 8 1 b_text b_cut b_pair b_res b_level b_over b_type b_first b_seq b_open b_stLevel b_stOver b_stIso := by
  have r1 := bi_F1_r (L := L) hs hk0
  refine br_f (by decide) (Exists.intro 33 (by_pass (r := 1) (G := bi_F1 g_sos k) (k := k) (ty0 := b_type) hL hq (fun i ty hi h post' c => by_rule1 hL hi hs hq (fun j hj => rfl) h c) (fun ty h1 f1 => ?_) 33 0 b_type (by omega) (by omega) (bi_MX_0 hk) (fun p _ => rfl)))
  refine br_f (by decide) (Exists.intro 33 (by_pass (r := 2) (G := bi_F2 (bi_F1 g_sos k)) (k := bi_F1 g_sos k) (ty0 := b_type) hL hq (fun i ty hi h post' c => by_rule2 hL hi hs (fun j hj => (r1 j hj).1.1) hq (fun j hj => rfl) h c) (fun ty h2 f2 => ?_) 33 0 ty (by omega) (by omega) (bi_MX_0 h1) f1))
  refine br_f (by decide) (Exists.intro 33 (by_pass (r := 3) (G := bi_F3 (bi_F2 (bi_F1 g_sos k))) (k := bi_F2 (bi_F1 g_sos k)) (ty0 := b_type) hL hq (fun i ty hi h post' c => by_rule3 hL hi hq (fun j hj => rfl) h c) (fun ty h3 f3 => ?_) 33 0 ty (by omega) (by omega) (bi_MX_0 h2) f2))
  refine br_f (by decide) (Exists.intro 33 (by_pass (r := 4) (G := bi_F4 L (bi_F3 (bi_F2 (bi_F1 g_sos k)))) (k := bi_F3 (bi_F2 (bi_F1 g_sos k))) (ty0 := b_type) hL hq (fun i ty hi h post' c => by_rule4 hL hi hs he hq (fun j hj => rfl) h c) (fun ty h4 f4 => ?_) 33 0 ty (by omega) (by omega) (bi_MX_0 h3) f3))
  refine br_f (by decide) (Exists.intro 33 (by_pass (r := 5) (G := bi_F5 L (bi_F4 L (bi_F3 (bi_F2 (bi_F1 g_sos k))))) (k := bi_F4 L (bi_F3 (bi_F2 (bi_F1 g_sos k)))) (ty0 := b_type) hL hq (fun i ty hi h post' c => by_rule5 hL hi hs he hq (fun j hj => rfl) h c) (fun ty h5 f5 => ?_) 33 0 ty (by omega) (by omega) (bi_MX_0 h4) f4))
  refine br_f (by decide) (Exists.intro 33 (by_pass (r := 6) (G := bi_F6 (bi_F5 L (bi_F4 L (bi_F3 (bi_F2 (bi_F1 g_sos k)))))) (k := bi_F5 L (bi_F4 L (bi_F3 (bi_F2 (bi_F1 g_sos k))))) (ty0 := b_type) hL hq (fun i ty hi h post' c => by_rule6 hL hi hq (fun j hj => rfl) h c) (fun ty h6 f6 => ?_) 33 0 ty (by omega) (by omega) (bi_MX_0 h5) f5))
  refine br_f (by decide) (Exists.intro 33 (by_pass (r := 7) (G := bi_W g_sos L k) (k := bi_F6 (bi_F5 L (bi_F4 L (bi_F3 (bi_F2 (bi_F1 g_sos k)))))) (ty0 := b_type) hL hq (fun i ty hi h post' c => by_rule7 hL hi hq (fun j hj => rfl) h c) (fun ty h7 f7 => ?_) 33 0 ty (by omega) (by omega) (bi_MX_0 h6) f6))
  exact hC ty h7 f7
end
end
section
/-! bracket pairs: a stack of opening members -/
def bi_fd (bt : Nat → Int32) (op : Int32) (o : Nat → Nat) : Nat → Option Nat
  | 0 => none
  | c + 1 => if bt (o c) = op then some c else bi_fd bt op o c
theorem bi_fd_s {bt : Nat → Int32} {op : Int32} {o : Nat → Nat} {t : Nat} : ∀ {c : Nat}, bi_fd bt op o c = some t → t < c ∧ bt (o t) = op ∧ ∀ u, t < u → u < c → ¬ bt (o u) = op
  | 0, h => by cases h
  | c + 1, h => by
    simp only [bi_fd] at h
    by_cases z : bt (o c) = op
    · rw [if_pos z] at h
      cases h
      exact ⟨by omega, z, fun u h1 h2 => by omega⟩
    · rw [if_neg z] at h
      obtain ⟨a1, a2, a3⟩ := bi_fd_s h
      refine ⟨by omega, a2, fun u h1 h2 => ?_⟩
      by_cases e : u = c
      · subst e; exact z
      · exact a3 u h1 (by omega)
theorem bi_fd_n {bt : Nat → Int32} {op : Int32} {o : Nat → Nat} : ∀ {c : Nat}, bi_fd bt op o c = none → ∀ u, u < c → ¬ bt (o u) = op
  | 0, _ => fun u h => by omega
  | c + 1, h => by
    simp only [bi_fd] at h
    by_cases z : bt (o c) = op
    · rw [if_pos z] at h; cases h
    · rw [if_neg z] at h
      intro u hu
      by_cases e : u = c
      · subst e; exact z
      · exact bi_fd_n h u (by omega)
abbrev bi_cb (bt kd : Nat → Int32) (i : Nat) : Prop := ¬ bt i ≤ 22 ∧ kd i = 13
def bi_bs (bt kd : Nat → Int32) : Nat → Nat × (Nat → Nat) × (Nat → Option Nat)
  | 0 => (0, fun _ => 0, fun _ => none)
  | i + 1 => if bi_cb bt kd i then (if bt i &&& 1 = 1 then ((bi_bs bt kd i).1 + 1, fun t => if t = (bi_bs bt kd i).1 then i else (bi_bs bt kd i).2.1 t, (bi_bs bt kd i).2.2)
      else match bi_fd bt (bt i - 1) (bi_bs bt kd i).2.1 (bi_bs bt kd i).1 with
        | some t => (t, (bi_bs bt kd i).2.1, fun j => if j = (bi_bs bt kd i).2.1 t then some i else if j = i then some ((bi_bs bt kd i).2.1 t) else (bi_bs bt kd i).2.2 j)
        | none => bi_bs bt kd i) else bi_bs bt kd i
theorem bi_bs_skip {bt kd : Nat → Int32} {i : Nat} (h : ¬ bi_cb bt kd i) : bi_bs bt kd (i + 1) = bi_bs bt kd i := by simp only [bi_bs]; rw [if_neg h]
theorem bi_bs_push {bt kd : Nat → Int32} {i : Nat} (h : bi_cb bt kd i) (ho : bt i &&& 1 = 1) : bi_bs bt kd (i + 1) = ((bi_bs bt kd i).1 + 1, fun t => if t = (bi_bs bt kd i).1 then i else (bi_bs bt kd i).2.1 t, (bi_bs bt kd i).2.2) := by simp only [bi_bs]; rw [if_pos h, if_pos ho]
theorem bi_bs_none {bt kd : Nat → Int32} {i : Nat} (h : bi_cb bt kd i) (ho : ¬ bt i &&& 1 = 1) (hf : bi_fd bt (bt i - 1) (bi_bs bt kd i).2.1 (bi_bs bt kd i).1 = none) : bi_bs bt kd (i + 1) = bi_bs bt kd i := by simp only [bi_bs]; rw [if_pos h, if_neg ho, hf]
theorem bi_bs_close {bt kd : Nat → Int32} {i t : Nat} (h : bi_cb bt kd i) (ho : ¬ bt i &&& 1 = 1) (hf : bi_fd bt (bt i - 1) (bi_bs bt kd i).2.1 (bi_bs bt kd i).1 = some t) : bi_bs bt kd (i + 1) = (t, (bi_bs bt kd i).2.1, fun j => if j = (bi_bs bt kd i).2.1 t then some i else if j = i then some ((bi_bs bt kd i).2.1 t) else (bi_bs bt kd i).2.2 j) := by simp only [bi_bs]; rw [if_pos h, if_neg ho, hf]
def bi_BO (bt : Nat → Int32) (i c : Nat) (o : Nat → Nat) (pm : Nat → Option Nat) : Prop :=
  c ≤ i ∧ (∀ t, t < c → o t < i ∧ bt (o t) &&& 1 = 1 ∧ ¬ bt (o t) ≤ 22) ∧ (∀ t u, t < u → u < c → o t < o u) ∧ (∀ j m, pm j = some m → j < i ∧ m < i ∧ ¬ bt j ≤ 22 ∧ (bt j &&& 1 = 1 → j < m))
theorem bi_BO_w {bt : Nat → Int32} {i c : Nat} {o : Nat → Nat} {pm : Nat → Option Nat} (h : bi_BO bt i c o pm) : bi_BO bt (i + 1) c o pm := by
  obtain ⟨h1, h2, h3, h4⟩ := h
  refine ⟨by omega, fun t ht => ⟨by have := (h2 t ht).1; omega, (h2 t ht).2⟩, h3, fun j m hm => ?_⟩
  obtain ⟨a1, a2, a3⟩ := h4 j m hm
  exact ⟨by omega, by omega, a3⟩
theorem bi_bs_ok (bt kd : Nat → Int32) : ∀ i, bi_BO bt i (bi_bs bt kd i).1 (bi_bs bt kd i).2.1 (bi_bs bt kd i).2.2
  | 0 => ⟨Nat.le_refl _, fun t h => by simp only [bi_bs] at h; omega, fun t u h1 h2 => by simp only [bi_bs] at h2; omega, fun j m h => by simp only [bi_bs] at h; cases h⟩
  | i + 1 => by
    have ih := bi_bs_ok bt kd i
    by_cases z : bi_cb bt kd i
    · by_cases w : bt i &&& 1 = 1
      · rw [bi_bs_push z w]
        obtain ⟨h1, h2, h3, h4⟩ := ih
        refine ⟨by dsimp only; omega, fun t ht => ?_, fun t u ht hu => ?_, fun j m hm => ?_⟩
        · dsimp only at *
          by_cases e : t = (bi_bs bt kd i).1
          · rw [if_pos e]; exact ⟨by omega, w, z.1⟩
          · rw [if_neg e]
            obtain ⟨a1, a2⟩ := h2 t (by omega)
            exact ⟨by omega, a2⟩
        · dsimp only at *
          rw [if_neg (by omega)]
          by_cases e : u = (bi_bs bt kd i).1
          · rw [if_pos e]; exact (h2 t (by omega)).1
          · rw [if_neg e]; exact h3 t u ht (by omega)
        · obtain ⟨a1, a2, a3⟩ := h4 j m hm
          exact ⟨by omega, by omega, a3⟩
      · cases hf : bi_fd bt (bt i - 1) (bi_bs bt kd i).2.1 (bi_bs bt kd i).1 with
        | none => rw [bi_bs_none z w hf]; exact bi_BO_w ih
        | some t =>
          rw [bi_bs_close z w hf]
          obtain ⟨f1, f2, f3⟩ := bi_fd_s hf
          obtain ⟨h1, h2, h3, h4⟩ := ih
          refine ⟨by dsimp only; omega, fun u hu => ?_, fun u v hu hv => h3 u v hu (by dsimp only at hv; omega), fun j m hm => ?_⟩
          · dsimp only at *
            obtain ⟨a1, a2⟩ := h2 u (by omega)
            exact ⟨by omega, a2⟩
          · dsimp only at *
            obtain ⟨a1, a2, a3⟩ := h2 t f1
            by_cases e : j = (bi_bs bt kd i).2.1 t
            · rw [if_pos e] at hm
              cases hm
              subst e
              exact ⟨by omega, by omega, a3, fun _ => a1⟩
            · rw [if_neg e] at hm
              by_cases e2 : j = i
              · rw [if_pos e2] at hm
                cases hm
                subst e2
                exact ⟨by omega, by omega, z.1, fun q => absurd q w⟩
              · rw [if_neg e2] at hm
                obtain ⟨b1, b2, b3⟩ := h4 j m hm
                exact ⟨by omega, by omega, b3⟩
    · rw [bi_bs_skip z]; exact bi_BO_w ih
/-- an array of pairs, by members -/
def bi_pr (s : Nat → Nat) (p0 : Nat → Int32) (pm : Nat → Option Nat) (j : Nat) : Int32 := match pm j with
  | some m => nI (s m)
  | none => p0 (s j)
theorem bi_pr_n {s : Nat → Nat} {p0 : Nat → Int32} {pm : Nat → Option Nat} {j : Nat} (h : pm j = none) : bi_pr s p0 pm j = p0 (s j) := by unfold bi_pr; rw [h]
theorem bi_pr_s {s : Nat → Nat} {p0 : Nat → Int32} {pm : Nat → Option Nat} {j m : Nat} (h : pm j = some m) : bi_pr s p0 pm j = nI (s m) := by unfold bi_pr; rw [h]
def bi_PA (L : Nat) (s : Nat → Nat) (p0 : Nat → Int32) (pm : Nat → Option Nat) (pr : Nat → Int32) : Prop := (∀ j, j < L → pr (s j) = bi_pr s p0 pm j) ∧ (∀ p, (∀ j, j < L → p ≠ s j) → pr p = p0 p)
theorem bi_PA_c {L : Nat} {s : Nat → Nat} {p0 pr : Nat → Int32} {pm : Nat → Option Nat} {m i : Nat} (inj : ∀ a b, a < L → b < L → s a = s b → a = b) (hm : m < L) (hi : i < L) (hmi : m ≠ i) (h : bi_PA L s p0 pm pr) : bi_PA L s p0 (fun j => if j = m then some i else if j = i then some m else pm j) (upd (upd pr (s m) (nI (s i))) (s i) (nI (s m))) := by
  refine ⟨fun j hj => ?_, fun p hp => ?_⟩
  · by_cases e2 : j = i
    · subst e2
      rw [pk_us]
      unfold bi_pr
      dsimp only
      rw [if_neg (fun z => hmi z.symm), if_pos rfl]
    · rw [pk_un (fun z => e2 (inj j i hj hi z))]
      by_cases e : j = m
      · subst e
        rw [pk_us]
        unfold bi_pr
        dsimp only
        rw [if_pos rfl]
      · rw [pk_un (fun z => e (inj j m hj hm z)), h.1 j hj]
        unfold bi_pr
        dsimp only
        rw [if_neg e, if_neg e2]
  · rw [pk_un (hp i hi), pk_un (hp m hm)]
    exact h.2 p hp
theorem bi_rem2 {c : Int32} (h : ¬ c < 0) : c - c / 2 * 2 = c &&& 1 := by
  obtain ⟨n, hn, rfl⟩ := nI_of h
  have e2 : nI n - nI n / 2 * 2 = nI (n % 2) := pk_rem (d := 2) hn (by omega) (by omega)
  rw [e2, bi_and1 hn]
theorem bi_and01 {c : Int32} (h : ¬ c < 0) : c &&& 1 = 0 ∨ c &&& 1 = 1 := by
  obtain ⟨n, hn, rfl⟩ := nI_of h
  rw [bi_and1 hn]
  by_cases z : n % 2 = 0
  · rw [z]; exact Or.inl rfl
  · have : n % 2 = 1 := by omega
    rw [this]; exact Or.inr rfl
/-- a mate: of opening brackets alone -/
def bi_mt (bt : Nat → Int32) (pm : Nat → Option Nat) (j : Nat) : Int32 := if bt j &&& 1 = 1 then bi_o (pm j) else -1
section
variable {f_cap f_depth f_size f_paragraph f_lines f_resolved f_top f_overflowIsolates f_overflowEmbeddings f_validIsolates f_seqLen f_seqLevel f_runDir f_sos f_eos f_openCount : Int32} {a_text a_breakAfter a_partner a_level a_type a_prevKept a_nextKept a_implicit a_pair a_valid a_taken a_stackLevel a_stackOverride a_stackIsolate a_seq a_kind a_mate a_openAt a_wasMark a_lineFirst a_lineSlot a_lineLv a_order a_place : Nat → Int32}
theorem bx_cb_loop {post : SX → Prop} {i c : Nat} {op : Int32} {s o : Nat → Nat} (hc : c ≤ 32) (ho : ∀ t, t < c → a_openAt t = nI (o t) ∧ o t < 32 ∧ a_seq (o t) = nI (s (o t)) ∧ s (o t) < 32)
    (k : ∀ r : Option Nat, r = bi_fd (fun j => a_text (s j)) op o c → wX_closeBracket_37 post (nI i) (bi_o r) f_cap f_depth f_size f_paragraph f_lines f_resolved f_top f_overflowIsolates f_overflowEmbeddings f_validIsolates f_seqLen f_seqLevel f_runDir f_sos f_eos (nI c) a_text a_breakAfter a_partner a_level a_type a_prevKept a_nextKept a_implicit a_pair a_valid a_taken a_stackLevel a_stackOverride a_stackIsolate a_seq a_kind a_mate a_openAt a_wasMark a_lineFirst a_lineSlot a_lineLv a_order a_place) :
    ∀ (d : Nat), d ≤ c → bi_fd (fun j => a_text (s j)) op o d = bi_fd (fun j => a_text (s j)) op o c → wX_closeBracket_7 post (nI i) op f_cap f_depth f_size f_paragraph f_lines f_resolved f_top f_overflowIsolates f_overflowEmbeddings f_validIsolates f_seqLen f_seqLevel f_runDir f_sos f_eos (nI c) a_text a_breakAfter a_partner a_level a_type a_prevKept a_nextKept a_implicit a_pair a_valid a_taken a_stackLevel a_stackOverride a_stackIsolate a_seq a_kind a_mate a_openAt a_wasMark a_lineFirst a_lineSlot a_lineLv a_order a_place (d + 1) (nI d + (-1)) := by
  intro d
  induction d with
  | zero => intro _ h; exact br_t (by decide) (k none h)
  | succ d ih =>
    intro hd h
    obtain ⟨a1, a2, a3, a4⟩ := ho d (by omega)
    rw [pk_m1]
    simp only [bi_fd] at h
    refine br_f (nI_pos (by omega)) ?_
    rw [nI_clamp (n := d) (by omega), a1, nI_clamp (n := o d) (by omega), a3, nI_clamp (n := s (o d)) (by omega)]
    refine And.intro (vp_in_nI (by omega) (by omega)) (And.intro (vp_in_nI a2 (by omega)) (And.intro (vp_in_nI a4 (by omega)) (br_c (fun q => ?_) (fun q => nm_e (ih (by omega) ?_)))))
    · rw [if_pos q] at h; exact k (some d) h
    · rw [if_neg q] at h; exact h
theorem bx_cb {post : SX → Prop} {L i c : Nat} {op : Int32} {s o : Nat → Nat} (hL : L ≤ 32) (hi : i < L) (hq : bi_SQ L s a_seq) (hc : c ≤ 32) (ho : ∀ t, t < c → a_openAt t = nI (o t) ∧ o t < L)
    (kn : bi_fd (fun j => a_text (s j)) op o c = none → post (f_cap, f_depth, f_size, f_paragraph, f_lines, f_resolved, f_top, f_overflowIsolates, f_overflowEmbeddings, f_validIsolates, f_seqLen, f_seqLevel, f_runDir, f_sos, f_eos, nI c, a_text, a_breakAfter, a_partner, a_level, a_type, a_prevKept, a_nextKept, a_implicit, a_pair, a_valid, a_taken, a_stackLevel, a_stackOverride, a_stackIsolate, a_seq, a_kind, a_mate, a_openAt, a_wasMark, a_lineFirst, a_lineSlot, a_lineLv, a_order, a_place))
    (ks : ∀ t, bi_fd (fun j => a_text (s j)) op o c = some t → post (f_cap, f_depth, f_size, f_paragraph, f_lines, f_resolved, f_top, f_overflowIsolates, f_overflowEmbeddings, f_validIsolates, f_seqLen, f_seqLevel, f_runDir, f_sos, f_eos, nI t, a_text, a_breakAfter, a_partner, a_level, a_type, a_prevKept, a_nextKept, a_implicit, upd (upd a_pair (s (o t)) (nI (s i))) (s i) (nI (s (o t))), a_valid, a_taken, a_stackLevel, a_stackOverride, a_stackIsolate, a_seq, a_kind, upd a_mate (o t) (nI i), a_openAt, a_wasMark, a_lineFirst, a_lineSlot, a_lineLv, a_order, a_place)) : wpX_closeBracket post (f_cap, f_depth, f_size, f_paragraph, f_lines, f_resolved, f_top, f_overflowIsolates, f_overflowEmbeddings, f_validIsolates, f_seqLen, f_seqLevel, f_runDir, f_sos, f_eos, nI c, a_text, a_breakAfter, a_partner, a_level, a_type, a_prevKept, a_nextKept, a_implicit, a_pair, a_valid, a_taken, a_stackLevel, a_stackOverride, a_stackIsolate, a_seq, a_kind, a_mate, a_openAt, a_wasMark, a_lineFirst, a_lineSlot, a_lineLv, a_order, a_place) (nI i) op := by
  refine nm_r (bi_sm1 (nI c)) (Exists.intro (c + 1) (bx_cb_loop (s := s) (o := o) hc (fun t ht => ?_) (fun r hr => ?_) c (Nat.le_refl _) rfl))
  · obtain ⟨a1, a2⟩ := ho t ht
    obtain ⟨b1, b2⟩ := hq.1 (o t) a2
    exact ⟨a1, by omega, b1, b2⟩
  · unfold wX_closeBracket_37
    cases r with
    | none => exact br_f (by decide) (kn hr.symm)
    | some t =>
      obtain ⟨f1, f2, f3⟩ := bi_fd_s hr.symm
      obtain ⟨a1, a2⟩ := ho t f1
      obtain ⟨b1, b2⟩ := hq.1 (o t) a2
      obtain ⟨c1, c2⟩ := hq.1 i hi
      have vi := vp_in_nI (n := i) (N := 32) (by omega) (by omega)
      have vo := vp_in_nI (n := o t) (N := 32) (by omega) (by omega)
      rw [bi_oS]
      refine br_t (nI_pos' (by omega)) (And.intro (vp_in_nI (by omega) (by omega)) ?_)
      rw [nI_clamp (n := t) (by omega), a1]
      refine nm_e (And.intro vo ?_)
      rw [nI_clamp (n := o t) (by omega), nI_clamp (n := i) (by omega), b1, c1, nI_clamp (n := s (o t)) (by omega), nI_clamp (n := s i) (by omega)]
      exact nm_e (And.intro vo (And.intro vi (And.intro (vp_in_nI b2 (by omega)) (nm_e (And.intro vi (And.intro vo (And.intro (vp_in_nI c2 (by omega)) (nm_e (ks t hr.symm)))))))))
theorem bx_pb_loop {post : SX → Prop} {L : Nat} {s : Nat → Nat} {kd p0 : Nat → Int32} (hL : L ≤ 32) (hq : bi_SQ L s a_seq) (hk : ∀ j, j < L → a_kind j = kd j) (ht : ∀ j, j < L → ¬ a_text (s j) < 0)
    (hC : ∀ (oc : Int32) (oa mt pr : Nat → Int32), (∀ j, j < L → mt j = bi_mt (fun j => a_text (s j)) (bi_bs (fun j => a_text (s j)) kd L).2.2 j) → bi_PA L s p0 (bi_bs (fun j => a_text (s j)) kd L).2.2 pr → post (f_cap, f_depth, f_size, f_paragraph, f_lines, f_resolved, f_top, f_overflowIsolates, f_overflowEmbeddings, f_validIsolates, nI L, f_seqLevel, f_runDir, f_sos, f_eos, oc, a_text, a_breakAfter, a_partner, a_level, a_type, a_prevKept, a_nextKept, a_implicit, pr, a_valid, a_taken, a_stackLevel, a_stackOverride, a_stackIsolate, a_seq, a_kind, mt, oa, a_wasMark, a_lineFirst, a_lineSlot, a_lineLv, a_order, a_place)) :
    ∀ (n i : Nat) (oa mt pr : Nat → Int32), L - i < n → i ≤ L → (∀ t, t < (bi_bs (fun j => a_text (s j)) kd i).1 → oa t = nI ((bi_bs (fun j => a_text (s j)) kd i).2.1 t)) → (∀ j, j < L → mt j = bi_mt (fun j => a_text (s j)) (bi_bs (fun j => a_text (s j)) kd i).2.2 j) → bi_PA L s p0 (bi_bs (fun j => a_text (s j)) kd i).2.2 pr →
      wX_pairBrackets_7 post n (nI i) f_cap f_depth f_size f_paragraph f_lines f_resolved f_top f_overflowIsolates f_overflowEmbeddings f_validIsolates (nI L) f_seqLevel f_runDir f_sos f_eos (nI (bi_bs (fun j => a_text (s j)) kd i).1) a_text a_breakAfter a_partner a_level a_type a_prevKept a_nextKept a_implicit pr a_valid a_taken a_stackLevel a_stackOverride a_stackIsolate a_seq a_kind mt oa a_wasMark a_lineFirst a_lineSlot a_lineLv a_order a_place := by
  intro n
  induction n with
  | zero => intro i oa mt pr h; omega
  | succ n ih =>
    intro i oa mt pr hn hi h1 h2 h3
    by_cases z : L ≤ i
    · have e : i = L := by omega
      subst e
      exact br_t (nI_le z (by omega)) (hC _ _ _ _ h2 h3)
    · have ok := bi_bs_ok (fun j => a_text (s j)) kd i
      have ihh := ih (i + 1)
      obtain ⟨q1, q2⟩ := hq.1 i (by omega)
      have vi := vp_in_nI (n := i) (N := 32) (by omega) (by omega)
      refine br_f (nI_ge (by omega) (by omega)) ?_
      rw [nI_clamp (n := i) (by omega), q1, nI_clamp (n := s i) (by omega), hk i (by omega)]
      have skip : ¬ bi_cb (fun j => a_text (s j)) kd i → wX_pairBrackets_48 post (wX_pairBrackets_7 post n) (nI i) (a_text (s i)) f_cap f_depth f_size f_paragraph f_lines f_resolved f_top f_overflowIsolates f_overflowEmbeddings f_validIsolates (nI L) f_seqLevel f_runDir f_sos f_eos (nI (bi_bs (fun j => a_text (s j)) kd i).1) a_text a_breakAfter a_partner a_level a_type a_prevKept a_nextKept a_implicit pr a_valid a_taken a_stackLevel a_stackOverride a_stackIsolate a_seq a_kind mt oa a_wasMark a_lineFirst a_lineSlot a_lineLv a_order a_place := by
        intro nc
        rw [bi_bs_skip nc] at ihh
        exact br_t rfl (br_t rfl (nm_r (nI_1 i) (ihh oa mt pr (by omega) (by omega) h1 h2 h3)))
      refine And.intro vi (And.intro (vp_in_nI q2 (by omega)) (nm_e (br_c (fun w => skip (fun v => v.1 w)) (fun w => And.intro vi (br_c (fun v => ?_) (fun v => skip (fun u => v u.2)))))))
      have hcb : bi_cb (fun j => a_text (s j)) kd i := ⟨w, v⟩
      refine br_f (by decide) ?_
      by_cases od : a_text (s i) &&& 1 = 1
      · rw [bi_bs_push hcb od] at ihh
        refine br_t od (nm_r (nI_1 _) (And.intro (vp_in_nI (by have := ok.1; omega) (by omega)) ?_))
        rw [nI_clamp (n := (bi_bs (fun j => a_text (s j)) kd i).1) (by have := ok.1; omega)]
        refine nm_e (br_f (by decide) (br_f (by rw [od]; decide) (nm_r (nI_1 i) (ihh _ mt pr (by omega) (by omega) (fun t ht => ?_) h2 h3))))
        dsimp only at ht ⊢
        by_cases e : t = (bi_bs (fun j => a_text (s j)) kd i).1
        · rw [e, pk_us, if_pos rfl]
        · rw [pk_un e, if_neg e]; exact h1 t (by omega)
      · have ev : a_text (s i) &&& 1 = 0 := (bi_and01 (ht i (by omega))).resolve_right od
        refine br_f od (br_f (by decide) (br_t ev (bx_cb (o := (bi_bs (fun j => a_text (s j)) kd i).2.1) (s := s) hL (by omega) hq (by have := ok.1; omega) (fun t ht => ⟨h1 t ht, by have := (ok.2.1 t ht).1; omega⟩) (fun hf => ?_) (fun t hf => ?_))))
        · rw [bi_bs_none hcb od hf] at ihh
          exact nm_r (nI_1 i) (ihh oa mt pr (by omega) (by omega) h1 h2 h3)
        · rw [bi_bs_close hcb od hf] at ihh
          obtain ⟨f1, f2, f3⟩ := bi_fd_s hf
          obtain ⟨o1, o2, o3⟩ := ok.2.1 t f1
          refine nm_r (nI_1 i) (ihh oa _ _ (by omega) (by omega) (fun u hu => h1 u (by dsimp only at hu; omega)) (fun j hj => ?_) (bi_PA_c hq.2 (by omega) (by omega) (by omega) h3))
          unfold bi_mt
          dsimp only
          by_cases e : j = (bi_bs (fun j => a_text (s j)) kd i).2.1 t
          · rw [e, pk_us, if_pos rfl, if_pos o2]; rfl
          · rw [pk_un e, h2 j hj, if_neg e]
            unfold bi_mt
            dsimp only
            by_cases e2 : j = i
            · rw [e2, if_neg od, if_neg od]
            · rw [if_neg e2]
theorem bx_pb {post : SX → Prop} {L : Nat} {s : Nat → Nat} {kd : Nat → Int32} (hL : L ≤ 32) (hq : bi_SQ L s a_seq) (hk : ∀ j, j < L → a_kind j = kd j) (ht : ∀ j, j < L → ¬ a_text (s j) < 0) (hm : ∀ j, j < L → a_mate j = -1)
    (hC : ∀ (oc : Int32) (oa mt pr : Nat → Int32), (∀ j, j < L → mt j = bi_mt (fun j => a_text (s j)) (bi_bs (fun j => a_text (s j)) kd L).2.2 j) → bi_PA L s a_pair (bi_bs (fun j => a_text (s j)) kd L).2.2 pr → post (f_cap, f_depth, f_size, f_paragraph, f_lines, f_resolved, f_top, f_overflowIsolates, f_overflowEmbeddings, f_validIsolates, nI L, f_seqLevel, f_runDir, f_sos, f_eos, oc, a_text, a_breakAfter, a_partner, a_level, a_type, a_prevKept, a_nextKept, a_implicit, pr, a_valid, a_taken, a_stackLevel, a_stackOverride, a_stackIsolate, a_seq, a_kind, mt, oa, a_wasMark, a_lineFirst, a_lineSlot, a_lineLv, a_order, a_place)) : wpX_pairBrackets post (f_cap, f_depth, f_size, f_paragraph, f_lines, f_resolved, f_top, f_overflowIsolates, f_overflowEmbeddings, f_validIsolates, nI L, f_seqLevel, f_runDir, f_sos, f_eos, f_openCount, a_text, a_breakAfter, a_partner, a_level, a_type, a_prevKept, a_nextKept, a_implicit, a_pair, a_valid, a_taken, a_stackLevel, a_stackOverride, a_stackIsolate, a_seq, a_kind, a_mate, a_openAt, a_wasMark, a_lineFirst, a_lineSlot, a_lineLv, a_order, a_place) := by
  refine Exists.intro 33 (bx_pb_loop hL hq hk ht hC 33 0 a_openAt a_mate a_pair (by omega) (by omega) (fun t ht => by simp only [bi_bs] at ht; omega) (fun j hj => ?_) ⟨fun j hj => rfl, fun p _ => rfl⟩)
  rw [hm j hj]
  unfold bi_mt
  by_cases z : a_text (s j) &&& 1 = 1
  · rw [if_pos z]; rfl
  · rw [if_neg z]
end
section
variable {g_cap g_depth g_len g_para g_count g_e g_way g_sos g_eos g_done : Int32} {b_text b_cut b_pair b_res b_level b_over b_type b_first b_seq b_open b_stLevel b_stOver b_stIso : Nat → Int32}
theorem by_74 {post : SY → Prop} {J : Int32 →  (Nat → Int32) → (Nat → Int32) → (Nat → Int32) → (Nat → Int32) → (Nat → Int32) → (Nat → Int32) → (Nat → Int32) → (Nat → Int32) → (Nat → Int32) → (Nat → Int32) → (Nat → Int32) → (Nat → Int32) → (Nat → Int32) →  Prop} {i L : Nat} {c x4 : Int32} {s : Nat → Nat} (hL : L ≤ 32) (hi : i ≤ L) (hq : bi_SQ L s b_seq)
    (k : ∀ r : Option Nat, (∀ m, r = some m → m < i ∧ ¬ b_open m = 0 ∧ b_text (s m) = c - 1 ∧ ∀ j, m < j → j < i → b_open j = 0 ∨ ¬ b_text (s j) = c - 1) → (r = none → ∀ j, j < i → b_open j = 0 ∨ ¬ b_text (s j) = c - 1) → wY_pairBrackets_110 post J (nI i) c (bi_o r) x4 g_cap g_depth g_len g_para g_count g_e g_way g_sos g_eos g_done b_text b_cut b_pair b_res b_level b_over b_type b_first b_seq b_open b_stLevel b_stOver b_stIso) :
    ∀ (d : Nat), d ≤ i → (∀ j, d ≤ j → j < i → b_open j = 0 ∨ ¬ b_text (s j) = c - 1) → wY_pairBrackets_74 post J (nI i) c x4 g_cap g_depth g_len g_para g_count g_e g_way g_sos g_eos g_done b_text b_cut b_pair b_res b_level b_over b_type b_first b_seq b_open b_stLevel b_stOver b_stIso (d + 1) (nI d + (-1)) := by
  intro d
  induction d with
  | zero => intro _ h; exact br_t (by decide) (k none (fun m e => by cases e) (fun _ j hj => h j (by omega) hj))
  | succ d ih =>
    intro hd h
    obtain ⟨q1, q2⟩ := hq.1 d (by omega)
    have vd := vp_in_nI (n := d) (N := 32) (by omega) (by omega)
    rw [pk_m1]
    have next : (b_open d = 0 ∨ ¬ b_text (s d) = c - 1) → wY_pairBrackets_74 post J (nI i) c x4 g_cap g_depth g_len g_para g_count g_e g_way g_sos g_eos g_done b_text b_cut b_pair b_res b_level b_over b_type b_first b_seq b_open b_stLevel b_stOver b_stIso (d + 1) (nI d + (-1)) := by
      intro q
      refine ih (by omega) (fun j j1 j2 => ?_)
      by_cases e : j = d
      · subst e; exact q
      · exact h j (by omega) j2
    refine br_f (nI_pos (by omega)) ?_
    rw [nI_clamp (n := d) (by omega), q1, nI_clamp (n := s d) (by omega)]
    refine And.intro vd (br_c (fun q => nm_e (next (Or.inl q))) (fun q => And.intro vd (And.intro (vp_in_nI q2 (by omega)) (br_c (fun w => ?_) (fun w => nm_e (next (Or.inr w)))))))
    exact k (some d) (fun m e => by cases e; exact ⟨by omega, q, w, fun j j1 j2 => h j (by omega) j2⟩) (fun e => by cases e)
theorem by_74b {post : SY → Prop} {J : Int32 →  (Nat → Int32) → (Nat → Int32) → (Nat → Int32) → (Nat → Int32) → (Nat → Int32) → (Nat → Int32) → (Nat → Int32) → (Nat → Int32) → (Nat → Int32) → (Nat → Int32) → (Nat → Int32) → (Nat → Int32) → (Nat → Int32) →  Prop} {i L : Nat} {c x3 x4 : Int32} {s : Nat → Nat} (hL : L ≤ 32) (hi : i ≤ L) (hq : bi_SQ L s b_seq) (hx : x3 = nI i + (-1))
    (k : ∀ r : Option Nat, (∀ m, r = some m → m < i ∧ ¬ b_open m = 0 ∧ b_text (s m) = c - 1 ∧ ∀ j, m < j → j < i → b_open j = 0 ∨ ¬ b_text (s j) = c - 1) → (r = none → ∀ j, j < i → b_open j = 0 ∨ ¬ b_text (s j) = c - 1) → wY_pairBrackets_110 post J (nI i) c (bi_o r) x4 g_cap g_depth g_len g_para g_count g_e g_way g_sos g_eos g_done b_text b_cut b_pair b_res b_level b_over b_type b_first b_seq b_open b_stLevel b_stOver b_stIso) :
    ∃ n, wY_pairBrackets_74 post J (nI i) c x4 g_cap g_depth g_len g_para g_count g_e g_way g_sos g_eos g_done b_text b_cut b_pair b_res b_level b_over b_type b_first b_seq b_open b_stLevel b_stOver b_stIso n x3 := by
  subst hx
  exact ⟨i + 1, by_74 hL hi hq k i (Nat.le_refl _) (fun j j1 j2 => by omega)⟩
theorem by_162 {post : SY → Prop} {J : Int32 →  (Nat → Int32) → (Nat → Int32) → (Nat → Int32) → (Nat → Int32) → (Nat → Int32) → (Nat → Int32) → (Nat → Int32) → (Nat → Int32) → (Nat → Int32) → (Nat → Int32) → (Nat → Int32) → (Nat → Int32) → (Nat → Int32) →  Prop} {i m : Nat} (hi : i ≤ 32) (k : ∀ op : Nat → Int32, (∀ j, m ≤ j → j < i → op j = 0) → (∀ j, ¬ (m ≤ j ∧ j < i) → op j = b_open j) → J (nI (i + 1)) b_text b_cut b_pair b_res b_level b_over b_type b_first b_seq op b_stLevel b_stOver b_stIso) :
    ∀ (n x : Nat) (op : Nat → Int32), i - x < n → m ≤ x → x ≤ i → (∀ j, m ≤ j → j < x → op j = 0) → (∀ j, ¬ (m ≤ j ∧ j < x) → op j = b_open j) → wY_pairBrackets_162 post J (nI i) g_cap g_depth g_len g_para g_count g_e g_way g_sos g_eos g_done n (nI x) b_text b_cut b_pair b_res b_level b_over b_type b_first b_seq op b_stLevel b_stOver b_stIso := by
  intro n
  induction n with
  | zero => intro x op h; omega
  | succ n ih =>
    intro x op hn h1 h2 h3 h4
    by_cases z : i ≤ x
    · have e : x = i := by omega
      subst e
      exact br_t (nI_le z (by omega)) (nm_r (nI_1 x) (k op h3 h4))
    · refine br_f (nI_ge (by omega) (by omega)) ?_
      rw [nI_clamp (n := x) (by omega)]
      refine And.intro (vp_in_nI (by omega) (by omega)) (nm_e (nm_r (nI_1 x) (ih (x + 1) _ (by omega) (by omega) (by omega) (fun j j1 j2 => ?_) (fun j hj => ?_))))
      · by_cases e : j = x
        · rw [e, pk_us]
        · rw [pk_un e]; exact h3 j j1 (by omega)
      · rw [pk_un (by omega)]
        exact h4 j (by omega)
theorem by_pb_loop {post : SY → Prop} {L : Nat} {s : Nat → Nat} {kd p0 : Nat → Int32} (hL : L ≤ 32) (hq : bi_SQ L s b_seq) (hk : ∀ j, j < L → b_type (s j) = kd j) (ht : ∀ j, j < L → ¬ b_text (s j) < 0)
    (hC : ∀ op pr : Nat → Int32, bi_PA L s p0 (bi_bs (fun j => b_text (s j)) kd L).2.2 pr → post (g_cap, g_depth, g_len, g_para, nI L, g_e, g_way, g_sos, g_eos, g_done, b_text, b_cut, pr, b_res, b_level, b_over, b_type, b_first, b_seq, op, b_stLevel, b_stOver, b_stIso)) :
    ∀ (n i : Nat) (op pr : Nat → Int32), L - i < n → i ≤ L → (∀ m, m < L → (¬ op m = 0 ↔ ∃ t, t < (bi_bs (fun j => b_text (s j)) kd i).1 ∧ (bi_bs (fun j => b_text (s j)) kd i).2.1 t = m)) → bi_PA L s p0 (bi_bs (fun j => b_text (s j)) kd i).2.2 pr →
      wY_pairBrackets_2 post g_cap g_depth g_len g_para (nI L) g_e g_way g_sos g_eos g_done n (nI i) b_text b_cut pr b_res b_level b_over b_type b_first b_seq op b_stLevel b_stOver b_stIso := by
  intro n
  induction n with
  | zero => intro i op pr h; omega
  | succ n ih =>
    intro i op pr hn hi h1 h3
    by_cases z : L ≤ i
    · have e : i = L := by omega
      subst e
      exact br_t (nI_le z (by omega)) (hC _ _ h3)
    · have ok := bi_bs_ok (fun j => b_text (s j)) kd i
      have ihh := ih (i + 1)
      obtain ⟨q1, q2⟩ := hq.1 i (by omega)
      have vi := vp_in_nI (n := i) (N := 32) (by omega) (by omega)
      have vs := vp_in_nI (n := s i) (N := 32) q2 (by omega)
      refine br_f (nI_ge (by omega) (by omega)) ?_
      rw [nI_clamp (n := i) (by omega), q1, nI_clamp (n := s i) (by omega), hk i (by omega)]
      have skip : ¬ bi_cb (fun j => b_text (s j)) kd i → wY_pairBrackets_52 post (wY_pairBrackets_2 post g_cap g_depth g_len g_para (nI L) g_e g_way g_sos g_eos g_done n) (nI i) (b_text (s i)) (nI i - 1) g_cap g_depth g_len g_para (nI L) g_e g_way g_sos g_eos g_done b_text b_cut pr b_res b_level b_over b_type b_first b_seq op b_stLevel b_stOver b_stIso := by
        intro nc
        rw [bi_bs_skip nc] at ihh
        exact br_t rfl (by_74b (s := s) hL (by omega) hq (bi_sm1 _) (fun r _ _ => br_t rfl (nm_r (nI_1 i) (ihh op pr (by omega) (by omega) h1 h3))))
      have hlt : ∀ {w : Int32}, w < 23 → w ≤ 22 := by
        intro w hw
        rw [Int32.lt_iff_toInt_lt] at hw
        rw [Int32.le_iff_toInt_le]
        rw [show (23 : Int32).toInt = 23 by decide] at hw
        rw [show (22 : Int32).toInt = 22 by decide]
        omega
      have hnlt : ∀ {w : Int32}, ¬ w < 23 → ¬ w ≤ 22 := by
        intro w hw
        rw [Int32.lt_iff_toInt_lt] at hw
        rw [Int32.le_iff_toInt_le]
        rw [show (23 : Int32).toInt = 23 by decide] at hw
        rw [show (22 : Int32).toInt = 22 by decide]
        omega
      refine And.intro vi (And.intro vs (nm_e (nm_e (br_c (fun w => skip (fun v => v.1 (hlt w))) (fun w => And.intro vi (And.intro vs (br_c (fun v => ?_) (fun v => skip (fun u => v u.2)))))))))
      have hcb : bi_cb (fun j => b_text (s j)) kd i := ⟨hnlt w, v⟩
      refine br_f (by decide) (And.intro (by decide) ?_)
      rw [bi_rem2 (ht i (by omega))]
      by_cases od : b_text (s i) &&& 1 = 1
      · rw [bi_bs_push hcb od] at ihh
        rw [nI_clamp (n := i) (by omega)]
        refine br_t od (And.intro vi (nm_e (by_74b (s := s) hL (by omega) hq (bi_sm1 _) (fun r _ _ => br_f (by decide) (And.intro (by decide) ?_)))))
        rw [bi_rem2 (ht i (by omega))]
        refine br_f (by rw [od]; decide) (nm_r (nI_1 i) (ihh _ pr (by omega) (by omega) (fun m hm => ?_) h3))
        dsimp only
        by_cases e : m = i
        · subst e
          rw [pk_us]
          exact ⟨fun _ => ⟨_, Nat.lt_succ_self _, if_pos rfl⟩, fun _ => by decide⟩
        · rw [pk_un e, h1 m hm]
          constructor
          · rintro ⟨t, t1, t2⟩
            exact ⟨t, by omega, by rw [if_neg (by omega)]; exact t2⟩
          · rintro ⟨t, t1, t2⟩
            by_cases et : t = (bi_bs (fun j => b_text (s j)) kd i).1
            · rw [if_pos et] at t2; exact absurd t2.symm e
            · rw [if_neg et] at t2; exact ⟨t, by omega, t2⟩
      · have ev : b_text (s i) &&& 1 = 0 := (bi_and01 (ht i (by omega))).resolve_right od
        refine br_f od (by_74b (s := s) hL (by omega) hq (bi_sm1 _) (fun r r1 r2 => br_f (by decide) (And.intro (by decide) ?_)))
        rw [bi_rem2 (ht i (by omega))]
        refine br_t ev ?_
        have lk : ∀ t, t < (bi_bs (fun j => b_text (s j)) kd i).1 → ¬ op ((bi_bs (fun j => b_text (s j)) kd i).2.1 t) = 0 := fun t ht => (h1 _ (by have := (ok.2.1 t ht).1; omega)).mpr ⟨t, ht, rfl⟩
        cases r with
        | none =>
          have hf : bi_fd (fun j => b_text (s j)) (b_text (s i) - 1) (bi_bs (fun j => b_text (s j)) kd i).2.1 (bi_bs (fun j => b_text (s j)) kd i).1 = none := by
            cases hf : bi_fd (fun j => b_text (s j)) (b_text (s i) - 1) (bi_bs (fun j => b_text (s j)) kd i).2.1 (bi_bs (fun j => b_text (s j)) kd i).1 with
            | none => rfl
            | some t =>
              obtain ⟨f1, f2, f3⟩ := bi_fd_s hf
              rcases r2 rfl _ (ok.2.1 t f1).1 with u | u
              · exact absurd u (lk t f1)
              · exact absurd f2 u
          rw [bi_bs_none hcb od hf] at ihh
          exact br_t (by decide) (nm_r (nI_1 i) (ihh op pr (by omega) (by omega) h1 h3))
        | some m =>
          obtain ⟨m1, m2, m3, m4⟩ := r1 m rfl
          obtain ⟨t, t1, t2⟩ := (h1 m (by omega)).mp m2
          have hf : bi_fd (fun j => b_text (s j)) (b_text (s i) - 1) (bi_bs (fun j => b_text (s j)) kd i).2.1 (bi_bs (fun j => b_text (s j)) kd i).1 = some t := by
            cases hf : bi_fd (fun j => b_text (s j)) (b_text (s i) - 1) (bi_bs (fun j => b_text (s j)) kd i).2.1 (bi_bs (fun j => b_text (s j)) kd i).1 with
            | none => exact absurd (by rw [t2]; exact m3) (bi_fd_n hf t t1)
            | some u =>
              obtain ⟨f1, f2, f3⟩ := bi_fd_s hf
              rcases Nat.lt_trichotomy t u with w | w | w
              · have := ok.2.2.1 t u w f1
                rw [t2] at this
                rcases m4 _ this (ok.2.1 u f1).1 with y | y
                · exact absurd y (lk u f1)
                · exact absurd f2 y
              · rw [w]
              · exact absurd (by rw [t2]; exact m3) (f3 t w t1)
          rw [bi_bs_close hcb od hf, t2] at ihh
          obtain ⟨p1, p2⟩ := hq.1 m (by omega)
          have vm := vp_in_nI (n := m) (N := 32) (by omega) (by omega)
          rw [bi_oS, nI_clamp (n := m) (by omega), nI_clamp (n := i) (by omega), p1, q1, nI_clamp (n := s m) (by omega), nI_clamp (n := s i) (by omega)]
          refine br_f (nI_pos (by omega)) (And.intro vm (And.intro vi (And.intro (vp_in_nI p2 (by omega)) (nm_e (And.intro vi (And.intro vm (And.intro vs (nm_e (Exists.intro 33 (by_162 (m := m) (by omega) (fun op' g1 g2 => ?_) 33 m op (by omega) (Nat.le_refl _) (by omega) (fun j j1 j2 => by omega) (fun j _ => rfl)))))))))))
          refine ihh op' _ (by omega) (by omega) (fun x hx => ?_) (bi_PA_c hq.2 (by omega) (by omega) (by omega) h3)
          dsimp only
          by_cases w : m ≤ x ∧ x < i
          · rw [g1 x w.1 w.2]
            refine ⟨fun q => absurd rfl q, ?_⟩
            rintro ⟨u, u1, u2⟩
            have := ok.2.2.1 u t u1 t1
            rw [t2, u2] at this
            omega
          · rw [g2 x w, h1 x hx]
            constructor
            · rintro ⟨u, u1, u2⟩
              have ul := (ok.2.1 u u1).1
              rw [u2] at ul
              rcases Nat.lt_or_ge u t with y | y
              · exact ⟨u, y, u2⟩
              · by_cases yt : u = t
                · subst yt
                  rw [t2] at u2
                  omega
                · have := ok.2.2.1 t u (by omega) u1
                  rw [t2, u2] at this
                  omega
            · rintro ⟨u, u1, u2⟩
              exact ⟨u, by omega, u2⟩
theorem by_pb {post : SY → Prop} {L : Nat} {s : Nat → Nat} {kd : Nat → Int32} (hL : L ≤ 32) (hq : bi_SQ L s b_seq) (hk : ∀ j, j < L → b_type (s j) = kd j) (ht : ∀ j, j < L → ¬ b_text (s j) < 0) (hm : ∀ j, j < L → b_open j = 0)
    (hC : ∀ op pr : Nat → Int32, bi_PA L s b_pair (bi_bs (fun j => b_text (s j)) kd L).2.2 pr → post (g_cap, g_depth, g_len, g_para, nI L, g_e, g_way, g_sos, g_eos, g_done, b_text, b_cut, pr, b_res, b_level, b_over, b_type, b_first, b_seq, op, b_stLevel, b_stOver, b_stIso)) : wpY_pairBrackets post (g_cap, g_depth, g_len, g_para, nI L, g_e, g_way, g_sos, g_eos, g_done, b_text, b_cut, b_pair, b_res, b_level, b_over, b_type, b_first, b_seq, b_open, b_stLevel, b_stOver, b_stIso) := by
  refine Exists.intro 33 (by_pb_loop hL hq hk ht hC 33 0 b_open b_pair (by omega) (by omega) (fun m hm2 => ⟨fun q => absurd (hm m hm2) q, ?_⟩) ⟨fun j hj => rfl, fun p _ => rfl⟩)
  rintro ⟨t, t1, _⟩
  simp only [bi_bs] at t1
  omega
end
end
section
/-! brackets take a direction -/
def bi_st (t : Int32) : Int32 := if t = 3 then 1 else if t = 6 then 1 else if t = 0 then 0 else if t = 1 then 1 else -1
def bi_sg (t : Int32) : Int32 := if t = 3 then 1 else if t = 6 then 1 else t
theorem bi_st3 (t : Int32) : (t = 3 ∧ bi_st t = 1 ∧ bi_sg t = 1) ∨ (t = 6 ∧ bi_st t = 1 ∧ bi_sg t = 1) ∨ (t = 0 ∧ bi_st t = 0 ∧ bi_sg t = 0) ∨ (t = 1 ∧ bi_st t = 1 ∧ bi_sg t = 1) ∨ (¬ t = 3 ∧ ¬ t = 6 ∧ ¬ t = 0 ∧ ¬ t = 1 ∧ bi_st t = -1 ∧ bi_sg t = t) := by
  by_cases a : t = 3
  · exact Or.inl ⟨a, by rw [a]; decide, by rw [a]; decide⟩
  · by_cases b : t = 6
    · exact Or.inr (Or.inl ⟨b, by rw [b]; decide, by rw [b]; decide⟩)
    · by_cases c : t = 0
      · exact Or.inr (Or.inr (Or.inl ⟨c, by rw [c]; decide, by rw [c]; decide⟩))
      · by_cases d : t = 1
        · exact Or.inr (Or.inr (Or.inr (Or.inl ⟨d, by rw [d]; decide, by rw [d]; decide⟩)))
        · refine Or.inr (Or.inr (Or.inr (Or.inr ⟨a, b, c, d, ?_, ?_⟩)))
          · unfold bi_st; rw [if_neg a, if_neg b, if_neg c, if_neg d]
          · unfold bi_sg; rw [if_neg a, if_neg b]
theorem bi_sg_w {t : Int32} {w : Nat} (hw : w < 2) : bi_sg t = nI w ↔ bi_st t = nI w := by
  have hw2 : w = 0 ∨ w = 1 := by omega
  rcases bi_st3 t with ⟨a, b, c⟩ | ⟨a, b, c⟩ | ⟨a, b, c⟩ | ⟨a, b, c⟩ | ⟨a1, a2, a3, a4, b, c⟩
  · rw [b, c]
  · rw [b, c]
  · rw [b, c]
  · rw [b, c]
  · rw [b, c]
    rcases hw2 with q | q <;> subst q
    · exact ⟨fun z => absurd z a3, fun z => absurd z (by decide)⟩
    · exact ⟨fun z => absurd z a4, fun z => absurd z (by decide)⟩
theorem bi_sg_n {t : Int32} {w : Nat} (hw : w < 2) : bi_sg t = 1 - nI w ↔ (¬ bi_st t = nI w ∧ ¬ bi_st t = -1) := by
  have hw2 : w = 0 ∨ w = 1 := by omega
  rcases bi_st3 t with ⟨a, b, c⟩ | ⟨a, b, c⟩ | ⟨a, b, c⟩ | ⟨a, b, c⟩ | ⟨a1, a2, a3, a4, b, c⟩
  · rw [b, c]; rcases hw2 with q | q <;> subst q <;> decide
  · rw [b, c]; rcases hw2 with q | q <;> subst q <;> decide
  · rw [b, c]; rcases hw2 with q | q <;> subst q <;> decide
  · rw [b, c]; rcases hw2 with q | q <;> subst q <;> decide
  · rw [b, c]
    refine ⟨fun z => ?_, fun z => absurd rfl z.2⟩
    rcases hw2 with q | q <;> subst q
    · exact absurd z a4
    · exact absurd z a3
def bi_ctx (so : Int32) (kd : Nat → Int32) : Nat → Int32
  | 0 => so
  | j + 1 => if bi_st (kd j) = -1 then bi_ctx so kd j else bi_st (kd j)
theorem bi_ctx01 {so : Int32} {kd : Nat → Int32} (hs : so = 0 ∨ so = 1) : ∀ j, bi_ctx so kd j = 0 ∨ bi_ctx so kd j = 1
  | 0 => hs
  | j + 1 => by
    simp only [bi_ctx]
    rcases bi_st3 (kd j) with ⟨a, b, c⟩ | ⟨a, b, c⟩ | ⟨a, b, c⟩ | ⟨a, b, c⟩ | ⟨a1, a2, a3, a4, b, c⟩
    · rw [b, if_neg (by decide)]; exact Or.inr rfl
    · rw [b, if_neg (by decide)]; exact Or.inr rfl
    · rw [b, if_neg (by decide)]; exact Or.inl rfl
    · rw [b, if_neg (by decide)]; exact Or.inr rfl
    · rw [b, if_pos rfl]; exact bi_ctx01 hs j
theorem bi_er_ctx {so : Int32} {kd : Nat → Int32} (hs : so = 0 ∨ so = 1) : ∀ j, bi_sg (bi_er 3 6 so kd j) = bi_ctx so kd j
  | 0 => by simp only [bi_er, bi_ctx]; rcases hs with q | q <;> rw [q] <;> decide
  | j + 1 => by
    have ih := bi_er_ctx (kd := kd) hs j
    simp only [bi_er, bi_ctx]
    rcases bi_st3 (kd j) with ⟨a, b, c⟩ | ⟨a, b, c⟩ | ⟨a, b, c⟩ | ⟨a, b, c⟩ | ⟨a1, a2, a3, a4, b, c⟩
    · rw [if_pos (Or.inr (Or.inr (Or.inl a))), b, c, if_neg (by decide)]
    · rw [if_pos (Or.inr (Or.inr (Or.inr a))), b, c, if_neg (by decide)]
    · rw [if_pos (Or.inl a), b, c, if_neg (by decide)]
    · rw [if_pos (Or.inr (Or.inl a)), b, c, if_neg (by decide)]
    · rw [if_neg (fun z => z.elim a3 (fun z => z.elim a4 (fun z => z.elim a1 a2))), b, if_pos rfl]; exact ih
def bi_Sm (w : Nat) (kd : Nat → Int32) (a b : Nat) : Prop := ∃ n, a < n ∧ n < b ∧ bi_st (kd n) = nI w
def bi_Op (w : Nat) (kd : Nat → Int32) (a b : Nat) : Prop := ∃ n, a < n ∧ n < b ∧ ¬ bi_st (kd n) = nI w ∧ ¬ bi_st (kd n) = -1
noncomputable def bi_tt (w : Nat) (so : Int32) (kd : Nat → Int32) (a b : Nat) : Int32 := @ite _ (bi_Sm w kd a b) (Classical.propDecidable _) (nI w) (@ite _ (bi_Op w kd a b) (Classical.propDecidable _) (bi_ctx so kd a) (-1))
theorem bi_tt_s {w : Nat} {so : Int32} {kd : Nat → Int32} {a b : Nat} (h : bi_Sm w kd a b) : bi_tt w so kd a b = nI w := by unfold bi_tt; rw [if_pos h]
theorem bi_tt_o {w : Nat} {so : Int32} {kd : Nat → Int32} {a b : Nat} (h : ¬ bi_Sm w kd a b) (h2 : bi_Op w kd a b) : bi_tt w so kd a b = bi_ctx so kd a := by unfold bi_tt; rw [if_neg h, if_pos h2]
theorem bi_tt_n {w : Nat} {so : Int32} {kd : Nat → Int32} {a b : Nat} (h : ¬ bi_Sm w kd a b) (h2 : ¬ bi_Op w kd a b) : bi_tt w so kd a b = -1 := by unfold bi_tt; rw [if_neg h, if_neg h2]
def bi_pq (k0 : Nat → Int32) (L : Nat) (t : Int32) : Nat → Nat → (Nat → Int32) → (Nat → Int32)
  | 0, _, kd => kd
  | f + 1, n, kd => if n < L ∧ k0 n = 8 then bi_pq k0 L t f (n + 1) (upd kd n t) else kd
def bi_sb (k0 : Nat → Int32) (L : Nat) (t : Int32) (k : Nat) (kd : Nat → Int32) : Nat → Int32 := bi_pq k0 L t L (k + 1) (upd kd k t)
noncomputable def bi_rp (w : Nat) (so : Int32) (k0 : Nat → Int32) (L : Nat) (bt : Nat → Int32) (pm : Nat → Option Nat) (kd : Nat → Int32) : Nat → (Nat → Int32)
  | 0 => kd
  | i + 1 => match (if bt i &&& 1 = 1 then pm i else none) with
    | none => bi_rp w so k0 L bt pm kd i
    | some m => if bi_tt w so (bi_rp w so k0 L bt pm kd i) i m = -1 then bi_rp w so k0 L bt pm kd i else bi_sb k0 L (bi_tt w so (bi_rp w so k0 L bt pm kd i) i m) m (bi_sb k0 L (bi_tt w so (bi_rp w so k0 L bt pm kd i) i m) i (bi_rp w so k0 L bt pm kd i))
section
variable {w L i m : Nat} {so : Int32} {k0 bt kd : Nat → Int32} {pm : Nat → Option Nat}
theorem bi_rp_n (h : ¬ bt i &&& 1 = 1 ∨ pm i = none) : bi_rp w so k0 L bt pm kd (i + 1) = bi_rp w so k0 L bt pm kd i := by
  have e : (if bt i &&& 1 = 1 then pm i else none) = none := by
    by_cases z : bt i &&& 1 = 1
    · rw [if_pos z]; exact h.resolve_left (fun q => q z)
    · rw [if_neg z]
  simp only [bi_rp]
  rw [e]
theorem bi_rp_s (h : bt i &&& 1 = 1) (hm : pm i = some m) : bi_rp w so k0 L bt pm kd (i + 1) = if bi_tt w so (bi_rp w so k0 L bt pm kd i) i m = -1 then bi_rp w so k0 L bt pm kd i else bi_sb k0 L (bi_tt w so (bi_rp w so k0 L bt pm kd i) i m) m (bi_sb k0 L (bi_tt w so (bi_rp w so k0 L bt pm kd i) i m) i (bi_rp w so k0 L bt pm kd i)) := by
  simp only [bi_rp]
  rw [if_pos h, hm]
end
theorem bi_pq_c {k0 : Nat → Int32} {L : Nat} {t : Int32} : ∀ {f n : Nat} {kd kd' : Nat → Int32}, (∀ j, j < L → kd j = kd' j) → ∀ j, j < L → bi_pq k0 L t f n kd j = bi_pq k0 L t f n kd' j
  | 0, _, _, _, h => h
  | f + 1, n, kd, kd', h => by
    intro j hj
    simp only [bi_pq]
    by_cases z : n < L ∧ k0 n = 8
    · rw [if_pos z, if_pos z]
      refine bi_pq_c (f := f) (fun j hj => ?_) j hj
      by_cases e : j = n
      · rw [e, pk_us, pk_us]
      · rw [pk_un e, pk_un e]; exact h j hj
    · rw [if_neg z, if_neg z]; exact h j hj
section
variable {f_cap f_depth f_size f_paragraph f_lines f_resolved f_top f_overflowIsolates f_overflowEmbeddings f_validIsolates f_seqLen f_seqLevel f_runDir f_sos f_eos f_openCount : Int32} {a_text a_breakAfter a_partner a_level a_type a_prevKept a_nextKept a_implicit a_pair a_valid a_taken a_stackLevel a_stackOverride a_stackIsolate a_seq a_kind a_mate a_openAt a_wasMark a_lineFirst a_lineSlot a_lineLv a_order a_place : Nat → Int32}
theorem bx_str {post : Int32 → Prop} {t : Int32} (k : post (bi_st t)) : wpX_strength post (f_cap, f_depth, f_size, f_paragraph, f_lines, f_resolved, f_top, f_overflowIsolates, f_overflowEmbeddings, f_validIsolates, f_seqLen, f_seqLevel, f_runDir, f_sos, f_eos, f_openCount, a_text, a_breakAfter, a_partner, a_level, a_type, a_prevKept, a_nextKept, a_implicit, a_pair, a_valid, a_taken, a_stackLevel, a_stackOverride, a_stackIsolate, a_seq, a_kind, a_mate, a_openAt, a_wasMark, a_lineFirst, a_lineSlot, a_lineLv, a_order, a_place) t := by
  unfold bi_st at k
  refine br_c (fun a => ?_) (fun a => br_c (fun b => ?_) (fun b => br_c (fun c => ?_) (fun c => br_c (fun d => ?_) (fun d => ?_))))
  · rw [if_pos a] at k; exact k
  · rw [if_neg a, if_pos b] at k; exact k
  · rw [if_neg a, if_neg b, if_pos c] at k; rw [c]; exact k
  · rw [if_neg a, if_neg b, if_neg c, if_pos d] at k; rw [d]; exact k
  · rw [if_neg a, if_neg b, if_neg c, if_neg d] at k; exact k
theorem bx_ctx_loop {post : Int32 → Prop} {L : Nat} {kd : Nat → Int32} (hL : L ≤ 32) (hk : ∀ j, j < L → a_kind j = kd j) : ∀ (j : Nat), j ≤ L → post (bi_ctx f_sos kd j) → wX_contextBefore_4 post f_cap f_depth f_size f_paragraph f_lines f_resolved f_top f_overflowIsolates f_overflowEmbeddings f_validIsolates f_seqLen f_seqLevel f_runDir f_sos f_eos f_openCount a_text a_breakAfter a_partner a_level a_type a_prevKept a_nextKept a_implicit a_pair a_valid a_taken a_stackLevel a_stackOverride a_stackIsolate a_seq a_kind a_mate a_openAt a_wasMark a_lineFirst a_lineSlot a_lineLv a_order a_place (j + 1) (nI j + (-1)) := by
  intro j
  induction j with
  | zero => intro _ k; exact br_t (by decide) (br_f (by decide) k)
  | succ j ih =>
    intro hj k
    rw [pk_m1]
    simp only [bi_ctx] at k
    have hv := vp_in_nI (n := j) (N := 32) (by omega) (by omega)
    refine br_f (nI_pos (by omega)) ?_
    rw [nI_clamp (n := j) (by omega), hk j (by omega)]
    refine And.intro hv (bx_str (br_c (fun q => nm_e (ih (by omega) ?_)) (fun q => ?_)))
    · rw [if_pos q] at k; exact k
    · rw [if_neg q] at k
      unfold wX_contextBefore_28
      rw [nI_clamp (n := j) (by omega), hk j (by omega)]
      exact br_t (nI_pos' (by omega)) (And.intro hv (bx_str k))
theorem bx_ctx {post : Int32 → Prop} {L i : Nat} {kd : Nat → Int32} (hL : L ≤ 32) (hi : i ≤ L) (hk : ∀ j, j < L → a_kind j = kd j) (k : post (bi_ctx f_sos kd i)) : wpX_contextBefore post (f_cap, f_depth, f_size, f_paragraph, f_lines, f_resolved, f_top, f_overflowIsolates, f_overflowEmbeddings, f_validIsolates, f_seqLen, f_seqLevel, f_runDir, f_sos, f_eos, f_openCount, a_text, a_breakAfter, a_partner, a_level, a_type, a_prevKept, a_nextKept, a_implicit, a_pair, a_valid, a_taken, a_stackLevel, a_stackOverride, a_stackIsolate, a_seq, a_kind, a_mate, a_openAt, a_wasMark, a_lineFirst, a_lineSlot, a_lineLv, a_order, a_place) (nI i) :=
  nm_r (bi_sm1 (nI i)) (Exists.intro (i + 1) (bx_ctx_loop hL hk i hi k))
theorem bx_pk_loop {post : Int32 → Prop} {L w a b : Nat} {kd : Nat → Int32} (hL : L ≤ 32) (ha : a ≤ L) (hb : b ≤ L) (hk : ∀ j, j < L → a_kind j = kd j)
    (k1 : bi_Sm w kd a b → post (nI w)) (k2 : ¬ bi_Sm w kd a b → bi_Op w kd a b → post (bi_ctx f_sos kd a)) (k3 : ¬ bi_Sm w kd a b → ¬ bi_Op w kd a b → post (-1)) :
    ∀ (n x : Nat) (f : Bool), b - x < n → a < x → (∀ j, a < j → j < x → j < b → ¬ bi_st (kd j) = nI w) → (f = true → bi_Op w kd a b) → (f = false → ∀ j, a < j → j < x → j < b → bi_st (kd j) = -1) → x ≤ 33 → wX_pairKind_7 post (nI a) (nI b) f_cap f_depth f_size f_paragraph f_lines f_resolved f_top f_overflowIsolates f_overflowEmbeddings f_validIsolates f_seqLen f_seqLevel (nI w) f_sos f_eos f_openCount a_text a_breakAfter a_partner a_level a_type a_prevKept a_nextKept a_implicit a_pair a_valid a_taken a_stackLevel a_stackOverride a_stackIsolate a_seq a_kind a_mate a_openAt a_wasMark a_lineFirst a_lineSlot a_lineLv a_order a_place n (bi_b f) (nI x) := by
  intro n
  induction n with
  | zero => intro x f h; omega
  | succ n ih =>
    intro x f hn hx h1 h2 h3 hx33
    by_cases z : b ≤ x
    · have ns : ¬ bi_Sm w kd a b := by
        rintro ⟨j, j1, j2, j3⟩
        exact h1 j j1 (by omega) j2 j3
      refine br_t (nI_le z (by omega)) (bi_bz f (fun q => k3 ns ?_) (fun q => bx_ctx hL ha hk (k2 ns (h2 q))))
      rintro ⟨j, j1, j2, j3, j4⟩
      exact j4 (h3 q j j1 (by omega) j2)
    · refine br_f (nI_ge (by omega) (by omega)) ?_
      rw [nI_clamp (n := x) (by omega), hk x (by omega)]
      refine And.intro (vp_in_nI (by omega) (by omega)) (bx_str (br_c (fun q => ?_) (fun q => br_c (fun v => ?_) (fun v => ?_))))
      · rw [q]; exact k1 ⟨x, hx, by omega, q⟩
      · refine nm_r (nI_1 x) (ih (x + 1) f (by omega) (by omega) (fun j j1 j2 j3 => ?_) h2 (fun hf j j1 j2 j3 => ?_) (by omega))
        · by_cases e : j = x
          · subst e; exact q
          · exact h1 j j1 (by omega) j3
        · by_cases e : j = x
          · subst e; exact v
          · exact h3 hf j j1 (by omega) j3
      · refine nm_r (nI_1 x) (ih (x + 1) true (by omega) (by omega) (fun j j1 j2 j3 => ?_) (fun _ => ⟨x, hx, by omega, q, v⟩) (fun hf => by cases hf) (by omega))
        by_cases e : j = x
        · subst e; exact q
        · exact h1 j j1 (by omega) j3
theorem bx_pk {post : Int32 → Prop} {L w a b : Nat} {kd : Nat → Int32} (hL : L ≤ 32) (ha : a < L) (hb : b ≤ L) (hk : ∀ j, j < L → a_kind j = kd j) (k : post (bi_tt w f_sos kd a b)) : wpX_pairKind post (f_cap, f_depth, f_size, f_paragraph, f_lines, f_resolved, f_top, f_overflowIsolates, f_overflowEmbeddings, f_validIsolates, f_seqLen, f_seqLevel, nI w, f_sos, f_eos, f_openCount, a_text, a_breakAfter, a_partner, a_level, a_type, a_prevKept, a_nextKept, a_implicit, a_pair, a_valid, a_taken, a_stackLevel, a_stackOverride, a_stackIsolate, a_seq, a_kind, a_mate, a_openAt, a_wasMark, a_lineFirst, a_lineSlot, a_lineLv, a_order, a_place) (nI a) (nI b) :=
  nm_r (nI_1 a) (Exists.intro 34 (bx_pk_loop hL (by omega) hb hk (fun h => by rw [bi_tt_s h] at k; exact k) (fun h h2 => by rw [bi_tt_o h h2] at k; exact k) (fun h h2 => by rw [bi_tt_n h h2] at k; exact k) 34 (a + 1) false (by omega) (by omega) (fun j j1 j2 => by omega) (fun q => by cases q) (fun _ j j1 j2 => by omega) (by omega)))
theorem bx_sb_loop {post : SX → Prop} {L : Nat} {t : Int32} {k0 : Nat → Int32} (hL : L ≤ 32) (hw : ∀ j, j < L → a_wasMark j = if k0 j = 8 then 1 else 0) :
    ∀ (f n : Nat) (kx kd : Nat → Int32), L - n ≤ f → n ≤ 33 → (∀ j, j < L → kx j = kd j) → (∀ kd' : Nat → Int32, (∀ j, j < L → kd' j = bi_pq k0 L t f n kd j) → post (f_cap, f_depth, f_size, f_paragraph, f_lines, f_resolved, f_top, f_overflowIsolates, f_overflowEmbeddings, f_validIsolates, nI L, f_seqLevel, f_runDir, f_sos, f_eos, f_openCount, a_text, a_breakAfter, a_partner, a_level, a_type, a_prevKept, a_nextKept, a_implicit, a_pair, a_valid, a_taken, a_stackLevel, a_stackOverride, a_stackIsolate, a_seq, kd', a_mate, a_openAt, a_wasMark, a_lineFirst, a_lineSlot, a_lineLv, a_order, a_place)) → wX_setBracket_11 post t f_cap f_depth f_size f_paragraph f_lines f_resolved f_top f_overflowIsolates f_overflowEmbeddings f_validIsolates (nI L) f_seqLevel f_runDir f_sos f_eos f_openCount (f + 1) (nI n) a_text a_breakAfter a_partner a_level a_type a_prevKept a_nextKept a_implicit a_pair a_valid a_taken a_stackLevel a_stackOverride a_stackIsolate a_seq kx a_mate a_openAt a_wasMark a_lineFirst a_lineSlot a_lineLv a_order a_place := by
  intro f
  induction f with
  | zero =>
    intro n kx kd h1 h2 h3 hC
    exact br_t (nI_le (by omega) (by omega)) (hC kx h3)
  | succ f ih =>
    intro n kx kd h1 h2 h3 hC
    simp only [bi_pq] at hC
    by_cases z : L ≤ n
    · rw [if_neg (fun q => by omega)] at hC
      exact br_t (nI_le z (by omega)) (hC kx h3)
    · refine br_f (nI_ge (by omega) (by omega)) ?_
      have hv := vp_in_nI (n := n) (N := 32) (by omega) (by omega)
      rw [nI_clamp (n := n) (by omega), hw n (by omega)]
      by_cases q : k0 n = 8
      · rw [if_pos ⟨by omega, q⟩] at hC
        rw [if_pos q]
        refine And.intro hv (br_f (by decide) (And.intro hv (nm_e (nm_r (nI_1 n) (ih (n + 1) _ (upd kd n t) (by omega) (by omega) (fun j hj => ?_) hC)))))
        by_cases e : j = n
        · rw [e, pk_us, pk_us]
        · rw [pk_un e, pk_un e]; exact h3 j hj
      · rw [if_neg (fun v => q v.2)] at hC
        rw [if_neg q]
        exact And.intro hv (br_t rfl (hC kx h3))
theorem bx_sb {post : SX → Prop} {L k : Nat} {t : Int32} {k0 kd : Nat → Int32} (hL : L ≤ 32) (hk : k < L) (hw : ∀ j, j < L → a_wasMark j = if k0 j = 8 then 1 else 0) (h : ∀ j, j < L → a_kind j = kd j)
    (hC : ∀ kd' : Nat → Int32, (∀ j, j < L → kd' j = bi_sb k0 L t k kd j) → post (f_cap, f_depth, f_size, f_paragraph, f_lines, f_resolved, f_top, f_overflowIsolates, f_overflowEmbeddings, f_validIsolates, nI L, f_seqLevel, f_runDir, f_sos, f_eos, f_openCount, a_text, a_breakAfter, a_partner, a_level, a_type, a_prevKept, a_nextKept, a_implicit, a_pair, a_valid, a_taken, a_stackLevel, a_stackOverride, a_stackIsolate, a_seq, kd', a_mate, a_openAt, a_wasMark, a_lineFirst, a_lineSlot, a_lineLv, a_order, a_place)) : wpX_setBracket post (f_cap, f_depth, f_size, f_paragraph, f_lines, f_resolved, f_top, f_overflowIsolates, f_overflowEmbeddings, f_validIsolates, nI L, f_seqLevel, f_runDir, f_sos, f_eos, f_openCount, a_text, a_breakAfter, a_partner, a_level, a_type, a_prevKept, a_nextKept, a_implicit, a_pair, a_valid, a_taken, a_stackLevel, a_stackOverride, a_stackIsolate, a_seq, a_kind, a_mate, a_openAt, a_wasMark, a_lineFirst, a_lineSlot, a_lineLv, a_order, a_place) (nI k) t := by
  unfold wpX_setBracket
  refine And.intro (vp_in_nI (by omega) (by omega)) ?_
  rw [nI_clamp (n := k) (by omega)]
  refine nm_e (nm_r (nI_1 k) (Exists.intro (L + 1) (bx_sb_loop hL hw L (k + 1) _ (upd kd k t) (by omega) (by omega) (fun j hj => ?_) hC)))
  by_cases e : j = k
  · rw [e, pk_us, pk_us]
  · rw [pk_un e, pk_un e]; exact h j hj
theorem bx_rp_loop {post : SX → Prop} {L w : Nat} {k0 bt kd : Nat → Int32} {pm : Nat → Option Nat} (hL : L ≤ 32) (hw2 : w < 2) (hs : f_sos = 0 ∨ f_sos = 1) (hw : ∀ j, j < L → a_wasMark j = if k0 j = 8 then 1 else 0) (hm : ∀ j, j < L → a_mate j = bi_mt bt pm j) (hp : ∀ j m, pm j = some m → m < L)
    (hC : ∀ kd' : Nat → Int32, (∀ j, j < L → kd' j = bi_rp w f_sos k0 L bt pm kd L j) → post (f_cap, f_depth, f_size, f_paragraph, f_lines, f_resolved, f_top, f_overflowIsolates, f_overflowEmbeddings, f_validIsolates, nI L, f_seqLevel, nI w, f_sos, f_eos, f_openCount, a_text, a_breakAfter, a_partner, a_level, a_type, a_prevKept, a_nextKept, a_implicit, a_pair, a_valid, a_taken, a_stackLevel, a_stackOverride, a_stackIsolate, a_seq, kd', a_mate, a_openAt, a_wasMark, a_lineFirst, a_lineSlot, a_lineLv, a_order, a_place)) :
    ∀ (n i : Nat) (kx : Nat → Int32), L - i < n → i ≤ L → (∀ j, j < L → kx j = bi_rp w f_sos k0 L bt pm kd i j) → wX_resolvePairs_2 post n (nI i) f_cap f_depth f_size f_paragraph f_lines f_resolved f_top f_overflowIsolates f_overflowEmbeddings f_validIsolates (nI L) f_seqLevel (nI w) f_sos f_eos f_openCount a_text a_breakAfter a_partner a_level a_type a_prevKept a_nextKept a_implicit a_pair a_valid a_taken a_stackLevel a_stackOverride a_stackIsolate a_seq kx a_mate a_openAt a_wasMark a_lineFirst a_lineSlot a_lineLv a_order a_place := by
  intro n
  induction n with
  | zero => intro i kx h; omega
  | succ n ih =>
    intro i kx hn hi h
    by_cases z : L ≤ i
    · have e : i = L := by omega
      subst e
      exact br_t (nI_le z (by omega)) (hC kx h)
    · have hv := vp_in_nI (n := i) (N := 32) (by omega) (by omega)
      have ihh := ih (i + 1)
      refine br_f (nI_ge (by omega) (by omega)) (And.intro hv ?_)
      rw [nI_clamp (n := i) (by omega), hm i (by omega)]
      by_cases od : bt i &&& 1 = 1
      · cases hpm : pm i with
        | none =>
          rw [bi_rp_n (Or.inr hpm)] at ihh
          have e : bi_mt bt pm i = -1 := by unfold bi_mt; rw [if_pos od, hpm]; rfl
          rw [e]
          exact br_f (by decide) (br_t rfl (br_t rfl (nm_r (nI_1 i) (ihh kx (by omega) (by omega) h))))
        | some m =>
          have hml := hp i m hpm
          rw [bi_rp_s od hpm] at ihh
          have e : bi_mt bt pm i = nI m := by unfold bi_mt; rw [if_pos od, hpm]; rfl
          rw [e]
          refine br_t (nI_pos' (by omega)) (And.intro hv (bx_pk (w := w) hL (by omega) (by omega) h ?_))
          generalize hg : bi_tt w f_sos (bi_rp w f_sos k0 L bt pm kd i) i m = t at ihh ⊢
          refine br_c (fun q => ?_) (fun q => ?_)
          · rw [if_pos q] at ihh
            exact br_t q (nm_r (nI_1 i) (ihh kx (by omega) (by omega) h))
          · rw [if_neg q] at ihh
            refine bx_sb (k0 := k0) hL (by omega) hw h (fun k1 h1 => br_f q (And.intro hv ?_))
            rw [nI_clamp (n := i) (by omega), hm i (by omega), e]
            exact bx_sb (k0 := k0) hL hml hw h1 (fun k2 h2 => nm_r (nI_1 i) (ihh k2 (by omega) (by omega) h2))
      · rw [bi_rp_n (Or.inl od)] at ihh
        have e : bi_mt bt pm i = -1 := by unfold bi_mt; rw [if_neg od]
        rw [e]
        exact br_f (by decide) (br_t rfl (br_t rfl (nm_r (nI_1 i) (ihh kx (by omega) (by omega) h))))
theorem bx_rp {post : SX → Prop} {L w : Nat} {k0 bt kd : Nat → Int32} {pm : Nat → Option Nat} (hL : L ≤ 32) (hw2 : w < 2) (hs : f_sos = 0 ∨ f_sos = 1) (hw : ∀ j, j < L → a_wasMark j = if k0 j = 8 then 1 else 0) (hm : ∀ j, j < L → a_mate j = bi_mt bt pm j) (hp : ∀ j m, pm j = some m → m < L) (h : ∀ j, j < L → a_kind j = kd j)
    (hC : ∀ kd' : Nat → Int32, (∀ j, j < L → kd' j = bi_rp w f_sos k0 L bt pm kd L j) → post (f_cap, f_depth, f_size, f_paragraph, f_lines, f_resolved, f_top, f_overflowIsolates, f_overflowEmbeddings, f_validIsolates, nI L, f_seqLevel, nI w, f_sos, f_eos, f_openCount, a_text, a_breakAfter, a_partner, a_level, a_type, a_prevKept, a_nextKept, a_implicit, a_pair, a_valid, a_taken, a_stackLevel, a_stackOverride, a_stackIsolate, a_seq, kd', a_mate, a_openAt, a_wasMark, a_lineFirst, a_lineSlot, a_lineLv, a_order, a_place)) : wpX_resolvePairs post (f_cap, f_depth, f_size, f_paragraph, f_lines, f_resolved, f_top, f_overflowIsolates, f_overflowEmbeddings, f_validIsolates, nI L, f_seqLevel, nI w, f_sos, f_eos, f_openCount, a_text, a_breakAfter, a_partner, a_level, a_type, a_prevKept, a_nextKept, a_implicit, a_pair, a_valid, a_taken, a_stackLevel, a_stackOverride, a_stackIsolate, a_seq, a_kind, a_mate, a_openAt, a_wasMark, a_lineFirst, a_lineSlot, a_lineLv, a_order, a_place) :=
  Exists.intro 33 (bx_rp_loop hL hw2 hs hw hm hp hC 33 0 a_kind (by omega) (by omega) h)
end
section
variable {g_cap g_depth g_len g_para g_count g_e g_way g_sos g_eos g_done : Int32} {b_text b_cut b_pair b_res b_level b_over b_type b_first b_seq b_open b_stLevel b_stOver b_stIso : Nat → Int32}
theorem by_str {post : Int32 → Prop} {t : Int32} (k : post (bi_sg t)) : wpY_strong post (g_cap, g_depth, g_len, g_para, g_count, g_e, g_way, g_sos, g_eos, g_done, b_text, b_cut, b_pair, b_res, b_level, b_over, b_type, b_first, b_seq, b_open, b_stLevel, b_stOver, b_stIso) t := by
  unfold bi_sg at k
  refine br_c (fun a => ?_) (fun a => br_c (fun b => ?_) (fun b => ?_))
  · rw [if_pos a] at k; exact k
  · rw [if_neg a, if_pos b] at k; exact k
  · rw [if_neg a, if_neg b] at k; exact k
theorem bi_yu {L i : Nat} {s : Nat → Nat} {ty kd : Nat → Int32} {v : Int32} (inj : ∀ a b, a < L → b < L → s a = s b → a = b) (hi : i < L) (h : ∀ j, j < L → ty (s j) = kd j) : ∀ j, j < L → upd ty (s i) v (s j) = upd kd i v j := by
  intro j hj
  by_cases e : j = i
  · rw [e, pk_us, pk_us]
  · rw [pk_un e, pk_un (fun z => e (inj j i hj hi z))]; exact h j hj
theorem by_pt_loop {post : SY → Prop} {L : Nat} {t : Int32} {s : Nat → Nat} {k0 ty0 : Nat → Int32} (hL : L ≤ 32) (hq : bi_SQ L s b_seq) (hf : ∀ j, j < L → b_first (s j) = k0 j) :
    ∀ (f n : Nat) (ty kd : Nat → Int32), L - n ≤ f → n ≤ 33 → (∀ j, j < L → ty (s j) = kd j) → (∀ p, (∀ j, j < L → p ≠ s j) → ty p = ty0 p) → (∀ ty' : Nat → Int32, (∀ j, j < L → ty' (s j) = bi_pq k0 L t f n kd j) → (∀ p, (∀ j, j < L → p ≠ s j) → ty' p = ty0 p) → post (g_cap, g_depth, g_len, g_para, nI L, g_e, g_way, g_sos, g_eos, g_done, b_text, b_cut, b_pair, b_res, b_level, b_over, ty', b_first, b_seq, b_open, b_stLevel, b_stOver, b_stIso)) → wY_paint_24 post t g_cap g_depth g_len g_para (nI L) g_e g_way g_sos g_eos g_done (f + 1) (nI n) b_text b_cut b_pair b_res b_level b_over ty b_first b_seq b_open b_stLevel b_stOver b_stIso := by
  intro f
  induction f with
  | zero =>
    intro n ty kd h1 h2 h3 h4 hC
    exact br_t (nI_le (by omega) (by omega)) (hC ty h3 h4)
  | succ f ih =>
    intro n ty kd h1 h2 h3 h4 hC
    simp only [bi_pq] at hC
    by_cases z : L ≤ n
    · rw [if_neg (fun q => by omega)] at hC
      exact br_t (nI_le z (by omega)) (hC ty h3 h4)
    · obtain ⟨q1, q2⟩ := hq.1 n (by omega)
      refine br_f (nI_ge (by omega) (by omega)) ?_
      have hv := vp_in_nI (n := n) (N := 32) (by omega) (by omega)
      have hvs := vp_in_nI (n := s n) (N := 32) q2 (by omega)
      rw [nI_clamp (n := n) (by omega), q1, nI_clamp (n := s n) (by omega), hf n (by omega)]
      refine And.intro hv (And.intro hvs (br_c (fun q => ?_) (fun q => ?_)))
      · rw [if_pos ⟨by omega, q⟩] at hC
        exact And.intro hv (And.intro hvs (nm_e (nm_r (nI_1 n) (ih (n + 1) _ (upd kd n t) (by omega) (by omega) (bi_yu hq.2 (by omega) h3) (fun p hp => by rw [pk_un (hp n (by omega))]; exact h4 p hp) hC))))
      · rw [if_neg (fun v => q v.2)] at hC
        exact hC ty h3 h4
theorem by_pt {post : SY → Prop} {L k : Nat} {t : Int32} {s : Nat → Nat} {k0 kd ty0 : Nat → Int32} (hL : L ≤ 32) (hk : k < L) (hq : bi_SQ L s b_seq) (hf : ∀ j, j < L → b_first (s j) = k0 j) (h : ∀ j, j < L → b_type (s j) = kd j) (h2 : ∀ p, (∀ j, j < L → p ≠ s j) → b_type p = ty0 p)
    (hC : ∀ ty' : Nat → Int32, (∀ j, j < L → ty' (s j) = bi_sb k0 L t k kd j) → (∀ p, (∀ j, j < L → p ≠ s j) → ty' p = ty0 p) → post (g_cap, g_depth, g_len, g_para, nI L, g_e, g_way, g_sos, g_eos, g_done, b_text, b_cut, b_pair, b_res, b_level, b_over, ty', b_first, b_seq, b_open, b_stLevel, b_stOver, b_stIso)) : wpY_paint post (g_cap, g_depth, g_len, g_para, nI L, g_e, g_way, g_sos, g_eos, g_done, b_text, b_cut, b_pair, b_res, b_level, b_over, b_type, b_first, b_seq, b_open, b_stLevel, b_stOver, b_stIso) (nI k) t := by
  obtain ⟨q1, q2⟩ := hq.1 k hk
  unfold wpY_paint
  refine br_f (nI_ge hk (by omega)) (And.intro (vp_in_nI (by omega) (by omega)) ?_)
  rw [nI_clamp (n := k) (by omega), q1, nI_clamp (n := s k) (by omega)]
  exact And.intro (vp_in_nI q2 (by omega)) (nm_e (nm_r (nI_1 k) (Exists.intro (L + 1) (by_pt_loop hL hq hf L (k + 1) _ (upd kd k t) (by omega) (by omega) (bi_yu hq.2 hk h) (fun p hp => by rw [pk_un (hp k hk)]; exact h2 p hp) hC))))
theorem by_st_end {post : SY → Prop} {L w i m : Nat} {s : Nat → Nat} {k0 kd ty0 : Nat → Int32} (fs fo : Bool) (hL : L ≤ 32) (hw2 : w < 2) (hs : g_sos = 0 ∨ g_sos = 1) (hi : i < L) (hm : m < L) (hq : bi_SQ L s b_seq) (hf : ∀ j, j < L → b_first (s j) = k0 j) (h : ∀ j, j < L → b_type (s j) = kd j) (h2 : ∀ p, (∀ j, j < L → p ≠ s j) → b_type p = ty0 p)
    (hfs : fs = true ↔ bi_Sm w kd i m) (hfo : fo = true ↔ bi_Op w kd i m)
    (kn : bi_tt w g_sos kd i m = -1 → post (g_cap, g_depth, g_len, g_para, nI L, g_e, nI w, g_sos, g_eos, g_done, b_text, b_cut, b_pair, b_res, b_level, b_over, b_type, b_first, b_seq, b_open, b_stLevel, b_stOver, b_stIso))
    (kp : ¬ bi_tt w g_sos kd i m = -1 → ∀ ty' : Nat → Int32, (∀ j, j < L → ty' (s j) = bi_sb k0 L (bi_tt w g_sos kd i m) m (bi_sb k0 L (bi_tt w g_sos kd i m) i kd) j) → (∀ p, (∀ j, j < L → p ≠ s j) → ty' p = ty0 p) → post (g_cap, g_depth, g_len, g_para, nI L, g_e, nI w, g_sos, g_eos, g_done, b_text, b_cut, b_pair, b_res, b_level, b_over, ty', b_first, b_seq, b_open, b_stLevel, b_stOver, b_stIso)) :
    wY_settle_91 post (nI i) (bi_b fs) (bi_b fo) (nI m) (nI w) g_cap g_depth g_len g_para (nI L) g_e (nI w) g_sos g_eos g_done b_text b_cut b_pair b_res b_level b_over b_type b_first b_seq b_open b_stLevel b_stOver b_stIso := by
  have hw01 : w = 0 ∨ w = 1 := by omega
  have hnw : ¬ nI w = -1 := by rcases hw01 with q | q <;> rw [q] <;> decide
  have c01 := bi_ctx01 (kd := kd) hs i
  have hnc : ¬ bi_ctx g_sos kd i = -1 := by rcases c01 with q | q <;> rw [q] <;> decide
  have h136 : ¬ bi_tt w g_sos kd i m = -1 → wY_settle_136 post (nI i) (nI m) (bi_tt w g_sos kd i m) g_cap g_depth g_len g_para (nI L) g_e (nI w) g_sos g_eos g_done b_text b_cut b_pair b_res b_level b_over b_type b_first b_seq b_open b_stLevel b_stOver b_stIso := by
    intro q
    unfold wY_settle_136
    exact by_pt (k0 := k0) (ty0 := ty0) hL hi hq hf h h2 (fun t1 a1 a2 => by_pt (k0 := k0) (ty0 := ty0) hL hm hq hf a1 a2 (fun t2 b1 b2 => kp q t2 b1 b2))
  unfold wY_settle_91
  refine by_er hL (by omega) hq h ?_
  refine bi_bz fs (fun q => by_str ?_) (fun q => ?_)
  · have ns : ¬ bi_Sm w kd i m := fun v => by rw [hfs.mpr v] at q; cases q
    subst q
    rw [bi_er_ctx hs]
    have h128 : ∀ want : Int32, want = bi_ctx g_sos kd i → wY_settle_128 post (nI i) (bi_b false) (bi_b fo) (nI m) want g_cap g_depth g_len g_para (nI L) g_e (nI w) g_sos g_eos g_done b_text b_cut b_pair b_res b_level b_over b_type b_first b_seq b_open b_stLevel b_stOver b_stIso := by
      intro want hwant
      subst hwant
      refine br_t rfl (bi_bz fo (fun v => kn (bi_tt_n ns (fun u => by rw [hfo.mpr u] at v; cases v))) (fun v => ?_))
      have e := bi_tt_o (so := g_sos) ns (hfo.mp v)
      rw [e] at h136
      exact h136 hnc
    refine br_c (fun v => nm_r (e' := 1 - nI w) rfl (h128 _ v.symm)) (fun v => h128 _ ?_)
    rcases hw01 with u | u <;> rcases c01 with y | y <;> rw [u] at v ⊢ <;> rw [y] at v ⊢
    · rfl
    · exact absurd (by decide) v
    · exact absurd (by decide) v
    · rfl
  · have sm := hfs.mp q
    subst q
    have e := bi_tt_s (so := g_sos) sm
    rw [e] at h136
    exact br_f (by decide) (h136 hnw)
theorem by_st_loop {post : SY → Prop} {L w i m : Nat} {s : Nat → Nat} {k0 kd ty0 : Nat → Int32} (hL : L ≤ 32) (hw2 : w < 2) (hs : g_sos = 0 ∨ g_sos = 1) (hi : i < L) (him : i < m) (hm : m < L) (hq : bi_SQ L s b_seq) (hf : ∀ j, j < L → b_first (s j) = k0 j) (h : ∀ j, j < L → b_type (s j) = kd j) (h2 : ∀ p, (∀ j, j < L → p ≠ s j) → b_type p = ty0 p) (hp : b_pair (s i) = nI (s m))
    (kn : bi_tt w g_sos kd i m = -1 → post (g_cap, g_depth, g_len, g_para, nI L, g_e, nI w, g_sos, g_eos, g_done, b_text, b_cut, b_pair, b_res, b_level, b_over, b_type, b_first, b_seq, b_open, b_stLevel, b_stOver, b_stIso))
    (kp : ¬ bi_tt w g_sos kd i m = -1 → ∀ ty' : Nat → Int32, (∀ j, j < L → ty' (s j) = bi_sb k0 L (bi_tt w g_sos kd i m) m (bi_sb k0 L (bi_tt w g_sos kd i m) i kd) j) → (∀ p, (∀ j, j < L → p ≠ s j) → ty' p = ty0 p) → post (g_cap, g_depth, g_len, g_para, nI L, g_e, nI w, g_sos, g_eos, g_done, b_text, b_cut, b_pair, b_res, b_level, b_over, ty', b_first, b_seq, b_open, b_stLevel, b_stOver, b_stIso)) :
    ∀ (n x : Nat) (fs fo : Bool), m - x < n → i < x → x ≤ m → (fs = true ↔ bi_Sm w kd i x) → (fo = true ↔ bi_Op w kd i x) → wY_settle_15 post (nI i) (nI w) g_cap g_depth g_len g_para (nI L) g_e (nI w) g_sos g_eos g_done b_text b_cut b_pair b_res b_level b_over b_type b_first b_seq b_open b_stLevel b_stOver b_stIso n (bi_b fs) (bi_b fo) (nI x) := by
  intro n
  induction n with
  | zero => intro x fs fo h; omega
  | succ n ih =>
    intro x fs fo hn hx hxm h3 h4
    obtain ⟨q1, q2⟩ := hq.1 x (by omega)
    obtain ⟨p1, p2⟩ := hq.1 i hi
    obtain ⟨r1, r2⟩ := hq.1 m hm
    refine br_f (nI_ge (by omega) (by omega)) ?_
    rw [nI_clamp (n := x) (by omega), nI_clamp (n := i) (by omega), q1, p1, nI_clamp (n := s i) (by omega), hp]
    refine And.intro (vp_in_nI (by omega) (by omega)) (And.intro (vp_in_nI (by omega) (by omega)) (And.intro (vp_in_nI p2 (by omega)) ?_))
    by_cases z : x = m
    · subst z
      exact br_t rfl (by_st_end fs fo hL hw2 hs hi hm hq hf h h2 h3 h4 kn kp)
    · refine br_f (fun v => z (hq.2 x m (by omega) hm ((nI_eq (by omega) (by omega)).mp v))) (by_ty_in hL hq (by omega) ?_)
      rw [h x (by omega)]
      have smS : bi_Sm w kd i (x + 1) ↔ (bi_Sm w kd i x ∨ bi_st (kd x) = nI w) := by
        constructor
        · rintro ⟨j, j1, j2, j3⟩
          by_cases e : j = x
          · subst e; exact Or.inr j3
          · exact Or.inl ⟨j, j1, by omega, j3⟩
        · rintro (⟨j, j1, j2, j3⟩ | v)
          · exact ⟨j, j1, by omega, j3⟩
          · exact ⟨x, hx, by omega, v⟩
      have opS : bi_Op w kd i (x + 1) ↔ (bi_Op w kd i x ∨ (¬ bi_st (kd x) = nI w ∧ ¬ bi_st (kd x) = -1)) := by
        constructor
        · rintro ⟨j, j1, j2, j3⟩
          by_cases e : j = x
          · subst e; exact Or.inr j3
          · exact Or.inl ⟨j, j1, by omega, j3⟩
        · rintro (⟨j, j1, j2, j3⟩ | v)
          · exact ⟨j, j1, by omega, j3⟩
          · exact ⟨x, hx, by omega, v⟩
      have h68 : ∀ fs' : Bool, (fs' = true ↔ bi_Sm w kd i (x + 1)) → wY_settle_68 post (wY_settle_15 post (nI i) (nI w) g_cap g_depth g_len g_para (nI L) g_e (nI w) g_sos g_eos g_done b_text b_cut b_pair b_res b_level b_over b_type b_first b_seq b_open b_stLevel b_stOver b_stIso n) (nI i) (bi_b fs') (bi_b fo) (nI x) (nI w) (kd x) g_cap g_depth g_len g_para (nI L) g_e (nI w) g_sos g_eos g_done b_text b_cut b_pair b_res b_level b_over b_type b_first b_seq b_open b_stLevel b_stOver b_stIso := by
        intro fs' hfs'
        unfold wY_settle_68
        refine by_str (br_c (fun v => nm_r (nI_1 x) (ih (x + 1) fs' true (by omega) (by omega) (by omega) hfs' ⟨fun _ => opS.mpr (Or.inr ((bi_sg_n hw2).mp v)), fun _ => rfl⟩)) (fun v => nm_r (nI_1 x) (ih (x + 1) fs' fo (by omega) (by omega) (by omega) hfs' ?_)))
        rw [h4, opS]
        exact ⟨Or.inl, fun u => u.elim id (fun y => absurd ((bi_sg_n hw2).mpr y) v)⟩
      refine by_str (br_c (fun v => h68 true ⟨fun _ => smS.mpr (Or.inr ((bi_sg_w hw2).mp v)), fun _ => rfl⟩) (fun v => h68 fs ?_))
      rw [h3, smS]
      exact ⟨Or.inl, fun u => u.elim id (fun y => absurd ((bi_sg_w hw2).mpr y) v)⟩
theorem by_211_loop {post : SY → Prop} {L w : Nat} {s : Nat → Nat} {k0 kd ty0 : Nat → Int32} {pm : Nat → Option Nat} (hL : L ≤ 32) (hw2 : w < 2) (hs : g_sos = 0 ∨ g_sos = 1) (hq : bi_SQ L s b_seq) (hf : ∀ j, j < L → b_first (s j) = k0 j) (ht : ∀ j, j < L → ¬ b_text (s j) < 0)
    (hpn : ∀ j, j < L → pm j = none → b_pair (s j) = -1) (hps : ∀ j m, j < L → pm j = some m → b_pair (s j) = nI (s m)) (hp : ∀ j m, pm j = some m → m < L ∧ (b_text (s j) &&& 1 = 1 → j < m))
    (hC : ∀ ty' : Nat → Int32, (∀ j, j < L → ty' (s j) = bi_rp w g_sos k0 L (fun j => b_text (s j)) pm kd L j) → (∀ p, (∀ j, j < L → p ≠ s j) → ty' p = ty0 p) → wpY_neutrals (fun u => match u with | (g_cap, g_depth, g_len, g_para, g_count, g_e, g_way, g_sos, g_eos, g_done, b_text, b_cut, b_pair, b_res, b_level, b_over, b_type, b_first, b_seq, b_open, b_stLevel, b_stOver, b_stIso) => (∃ n272 : Nat, wY_sequence_272 post g_cap g_depth g_len g_para g_count g_e g_way g_sos g_eos g_done n272 0 b_text b_cut b_pair b_res b_level b_over b_type b_first b_seq b_open b_stLevel b_stOver b_stIso)) (g_cap, g_depth, g_len, g_para, nI L, g_e, nI w, g_sos, g_eos, g_done, b_text, b_cut, b_pair, b_res, b_level, b_over, ty', b_first, b_seq, b_open, b_stLevel, b_stOver, b_stIso)) :
    ∀ (n i : Nat) (ty : Nat → Int32), L - i < n → i ≤ L → (∀ j, j < L → ty (s j) = bi_rp w g_sos k0 L (fun j => b_text (s j)) pm kd i j) → (∀ p, (∀ j, j < L → p ≠ s j) → ty p = ty0 p) → wY_sequence_211 post n (nI i) g_cap g_depth g_len g_para (nI L) g_e (nI w) g_sos g_eos g_done b_text b_cut b_pair b_res b_level b_over ty b_first b_seq b_open b_stLevel b_stOver b_stIso := by
  intro n
  induction n with
  | zero => intro i ty h; omega
  | succ n ih =>
    intro i ty hn hi h h2
    by_cases z : L ≤ i
    · have e : i = L := by omega
      subst e
      exact br_t (nI_le z (by omega)) (hC ty h h2)
    · obtain ⟨q1, q2⟩ := hq.1 i (by omega)
      have ihh := ih (i + 1)
      have hv := vp_in_nI (n := i) (N := 32) (by omega) (by omega)
      have hvs := vp_in_nI (n := s i) (N := 32) q2 (by omega)
      refine br_f (nI_ge (by omega) (by omega)) ?_
      rw [nI_clamp (n := i) (by omega), q1, nI_clamp (n := s i) (by omega), bi_rem2 (ht i (by omega))]
      refine And.intro hv (And.intro hvs (And.intro (by decide) (br_c (fun od => And.intro hv (And.intro hvs ?_)) (fun od => ?_))))
      · cases hpm : pm i with
        | none =>
          rw [bi_rp_n (Or.inr hpm)] at ihh
          rw [hpn i (by omega) hpm]
          exact br_t (by decide) (nm_r (nI_1 i) (ihh ty (by omega) (by omega) h h2))
        | some m =>
          obtain ⟨m1, m2⟩ := hp i m hpm
          obtain ⟨r1, r2⟩ := hq.1 m m1
          rw [bi_rp_s (bt := fun j => b_text (s j)) od hpm] at ihh
          have hpi := hps i m (by omega) hpm
          rw [hpi]
          refine br_f (nI_pos (by omega)) (nm_r (nI_1 i) (Exists.intro 34 (by_st_loop (k0 := k0) (kd := bi_rp w g_sos k0 L (fun j => b_text (s j)) pm kd i) (ty0 := ty0) hL hw2 hs (by omega) (m2 od) m1 hq hf h h2 hpi (fun q => ?_) (fun q ty' a1 a2 => ?_) 34 (i + 1) false false (by omega) (by omega) (by have := m2 od; omega) ?_ ?_)))
          · rw [if_pos q] at ihh
            exact nm_r (nI_1 i) (ihh ty (by omega) (by omega) h h2)
          · rw [if_neg q] at ihh
            exact nm_r (nI_1 i) (ihh ty' (by omega) (by omega) a1 a2)
          · refine ⟨fun v => (by cases v), fun v => ?_⟩
            obtain ⟨j, j1, j2, _⟩ := v
            omega
          · refine ⟨fun v => (by cases v), fun v => ?_⟩
            obtain ⟨j, j1, j2, _⟩ := v
            omega
      · rw [bi_rp_n (bt := fun j => b_text (s j)) (i := i) (Or.inl od)] at ihh
        exact nm_r (nI_1 i) (ihh ty (by omega) (by omega) h h2)
end
end
section
/-! neutrals, and the levels -/
abbrev bi_ne (x : Int32) : Prop := (¬ x < 10 ∧ x ≤ 13) ∨ (¬ x < 19 ∧ ¬ 22 < x)
theorem bi_k4 {x : Int32} (h : bi_kr x) (hn : ¬ bi_ne x) : x = 0 ∨ x = 1 ∨ x = 3 ∨ x = 6 := by
  obtain ⟨⟨h1, h2, h3⟩, h4, h5, h6, h7, h8⟩ := h
  have lit : (0 : Int32).toInt = 0 ∧ (22 : Int32).toInt = 22 ∧ (9 : Int32).toInt = 9 ∧ (14 : Int32).toInt = 14 ∧ (18 : Int32).toInt = 18 ∧ (8 : Int32).toInt = 8 ∧ (2 : Int32).toInt = 2 ∧ (4 : Int32).toInt = 4 ∧ (5 : Int32).toInt = 5 ∧ (7 : Int32).toInt = 7 ∧ (10 : Int32).toInt = 10 ∧ (13 : Int32).toInt = 13 ∧ (19 : Int32).toInt = 19 ∧ (1 : Int32).toInt = 1 ∧ (3 : Int32).toInt = 3 ∧ (6 : Int32).toInt = 6 := by decide
  obtain ⟨l0, l22, l9, l14, l18, l8, l2, l4, l5, l7, l10, l13, l19, l1, l3, l6⟩ := lit
  simp only [bi_R, bi_ne, Int32.lt_iff_toInt_lt, Int32.le_iff_toInt_le, ← Int32.toInt_inj, l0, l22, l9, l14, l18, l8, l2, l4, l5, l7, l10, l13, l19, l1, l3, l6] at *
  omega
theorem bi_k4_st {x : Int32} (h : x = 0 ∨ x = 1 ∨ x = 3 ∨ x = 6) : bi_sg x = bi_st x ∧ (bi_st x = 0 ∨ bi_st x = 1) := by
  rcases h with h | h | h | h <;> rw [h] <;> decide
theorem bi_01_kr {x : Int32} (h : x = 0 ∨ x = 1) : bi_kr x ∧ ¬ bi_ne x := by
  rcases h with h | h <;> rw [h] <;> exact ⟨⟨bi_k0_c (by decide), by decide, by decide, by decide, by decide, by decide⟩, by decide⟩
def bi_nef (kd : Nat → Int32) (L : Nat) : Nat → Nat
  | 0 => L
  | f + 1 => if bi_ne (kd (L - (f + 1))) then bi_nef kd L f else L - (f + 1)
def bi_en (kd : Nat → Int32) (L i : Nat) : Nat := bi_nef kd L (L - i)
theorem bi_en_end {kd : Nat → Int32} {L i : Nat} (h : L ≤ i) : bi_en kd L i = L := by
  unfold bi_en
  rw [show L - i = 0 by omega]; rfl
theorem bi_en_eq {kd : Nat → Int32} {L i : Nat} (h : i < L) : bi_en kd L i = if bi_ne (kd i) then bi_en kd L (i + 1) else i := by
  unfold bi_en
  have e : L - i = L - (i + 1) + 1 := by omega
  rw [e]
  have e2 : L - (L - (i + 1) + 1) = i := by omega
  rw [bi_nef, e2]
theorem bi_en_sp {kd : Nat → Int32} {L : Nat} : ∀ {d i : Nat}, L - i = d → i ≤ L → i ≤ bi_en kd L i ∧ bi_en kd L i ≤ L ∧ (bi_en kd L i < L → ¬ bi_ne (kd (bi_en kd L i))) := by
  intro d
  induction d with
  | zero => intro i h1 h2; rw [bi_en_end (by omega)]; exact ⟨h2, Nat.le_refl _, fun z => by omega⟩
  | succ d ih =>
    intro i h1 h2
    rw [bi_en_eq (by omega)]
    by_cases z : bi_ne (kd i)
    · rw [if_pos z]
      obtain ⟨a1, a2, a3⟩ := ih (i := i + 1) (by omega) (by omega)
      exact ⟨by omega, a2, a3⟩
    · rw [if_neg z]
      exact ⟨Nat.le_refl _, by omega, fun _ => z⟩
def bi_bf (so : Int32) (k : Nat → Int32) (i : Nat) : Int32 := if i = 0 then so else bi_st (k (i - 1))
def bi_at (eo : Int32) (L : Nat) (k : Nat → Int32) (e : Nat) : Int32 := if e = L then eo else bi_st (k e)
def bi_nv (w : Nat) (so eo : Int32) (L : Nat) (k : Nat → Int32) (i : Nat) : Int32 := if bi_bf so k i = bi_at eo L k (bi_en k L i) then bi_bf so k i else nI w
def bi_nn (w : Nat) (so eo : Int32) (L : Nat) (kd : Nat → Int32) : Nat → (Nat → Int32)
  | 0 => kd
  | i + 1 => bi_fl (bi_nn w so eo L kd i) i (bi_en (bi_nn w so eo L kd i) L i) (bi_nv w so eo L (bi_nn w so eo L kd i) i)
theorem bi_nn_ok {w : Nat} {so eo : Int32} {L : Nat} {kd : Nat → Int32} (hw : w < 2) (hs : so = 0 ∨ so = 1) (h : ∀ j, j < L → bi_kr (kd j)) : ∀ i, i ≤ L → ∀ j, j < L → bi_kr (bi_nn w so eo L kd i j) ∧ (j < i → ¬ bi_ne (bi_nn w so eo L kd i j)) := by
  intro i
  induction i with
  | zero => intro _ j hj; exact ⟨h j hj, fun z => by omega⟩
  | succ i ih =>
    intro hi j hj
    have ih := ih (by omega)
    obtain ⟨e1, e2, e3⟩ := bi_en_sp (kd := bi_nn w so eo L kd i) (L := L) (i := i) rfl (by omega)
    simp only [bi_nn]
    by_cases z : i ≤ j ∧ j < bi_en (bi_nn w so eo L kd i) L i
    · rw [bi_fl_in z.1 z.2]
      have v01 : bi_nv w so eo L (bi_nn w so eo L kd i) i = 0 ∨ bi_nv w so eo L (bi_nn w so eo L kd i) i = 1 := by
        unfold bi_nv
        split
        · unfold bi_bf
          by_cases q : i = 0
          · rw [if_pos q]; exact hs
          · rw [if_neg q]
            obtain ⟨a1, a2⟩ := ih (i - 1) (by omega)
            exact (bi_k4_st (bi_k4 a1 (a2 (by omega)))).2
        · have : w = 0 ∨ w = 1 := by omega
          rcases this with q | q <;> rw [q]
          · exact Or.inl rfl
          · exact Or.inr rfl
      obtain ⟨b1, b2⟩ := bi_01_kr v01
      exact ⟨b1, fun _ => b2⟩
    · rw [bi_fl_out z]
      obtain ⟨a1, a2⟩ := ih j hj
      refine ⟨a1, fun q => ?_⟩
      by_cases e : j = i
      · subst e
        have : bi_en (bi_nn w so eo L kd j) L j = j := by omega
        rw [this] at e3
        exact e3 hj
      · exact a2 (by omega)
def bi_ri (w : Nat) (x : Int32) : Nat := if x = nI w then 0 else if w = 0 then (if x = 1 then 1 else 2) else 1
theorem bi_ri_le (w : Nat) (x : Int32) : bi_ri w x ≤ 2 := by
  unfold bi_ri
  split
  · omega
  · split
    · split <;> omega
    · omega
section
variable {f_cap f_depth f_size f_paragraph f_lines f_resolved f_top f_overflowIsolates f_overflowEmbeddings f_validIsolates f_seqLen f_seqLevel f_runDir f_sos f_eos f_openCount : Int32} {a_text a_breakAfter a_partner a_level a_type a_prevKept a_nextKept a_implicit a_pair a_valid a_taken a_stackLevel a_stackOverride a_stackIsolate a_seq a_kind a_mate a_openAt a_wasMark a_lineFirst a_lineSlot a_lineLv a_order a_place : Nat → Int32}
theorem bx_ifN {A B : Prop} {c : Int32} (h0 : ¬ bi_ne c → A) (h1 : bi_ne c → B) : wpX_isNeutral (fun r => (r = 0 → A) ∧ (¬ r = 0 → B)) (f_cap, f_depth, f_size, f_paragraph, f_lines, f_resolved, f_top, f_overflowIsolates, f_overflowEmbeddings, f_validIsolates, f_seqLen, f_seqLevel, f_runDir, f_sos, f_eos, f_openCount, a_text, a_breakAfter, a_partner, a_level, a_type, a_prevKept, a_nextKept, a_implicit, a_pair, a_valid, a_taken, a_stackLevel, a_stackOverride, a_stackIsolate, a_seq, a_kind, a_mate, a_openAt, a_wasMark, a_lineFirst, a_lineSlot, a_lineLv, a_order, a_place) c := by
  have h12 : ¬ (¬ c < 10 ∧ c ≤ 13) → wX_isNeutral_12 (fun r => (r = 0 → A) ∧ (¬ r = 0 → B)) c f_cap f_depth f_size f_paragraph f_lines f_resolved f_top f_overflowIsolates f_overflowEmbeddings f_validIsolates f_seqLen f_seqLevel f_runDir f_sos f_eos f_openCount a_text a_breakAfter a_partner a_level a_type a_prevKept a_nextKept a_implicit a_pair a_valid a_taken a_stackLevel a_stackOverride a_stackIsolate a_seq a_kind a_mate a_openAt a_wasMark a_lineFirst a_lineSlot a_lineLv a_order a_place := by
    intro q
    exact br_c (fun a => br_t rfl (h0 (fun z => z.elim q (fun w => w.1 a)))) (fun a => br_c (fun b => br_t rfl (h0 (fun z => z.elim q (fun w => w.2 b)))) (fun b => br_f (by decide) (h1 (Or.inr ⟨a, b⟩))))
  exact br_c (fun a => h12 (fun z => z.1 a)) (fun a => br_c (fun b => br_f (by decide) (h1 (Or.inl ⟨a, b⟩))) (fun b => h12 (fun z => b z.2)))
theorem bx_n12 {post : SX → Prop} {J : Int32 → Int32 → Int32 → Int32 → Int32 → Int32 → Int32 → Int32 → Int32 → Int32 → Int32 → Int32 → Int32 → Int32 → Int32 → Int32 → Int32 →  (Nat → Int32) → (Nat → Int32) → (Nat → Int32) → (Nat → Int32) → (Nat → Int32) → (Nat → Int32) → (Nat → Int32) → (Nat → Int32) → (Nat → Int32) → (Nat → Int32) → (Nat → Int32) → (Nat → Int32) → (Nat → Int32) → (Nat → Int32) → (Nat → Int32) → (Nat → Int32) → (Nat → Int32) → (Nat → Int32) → (Nat → Int32) → (Nat → Int32) → (Nat → Int32) → (Nat → Int32) → (Nat → Int32) → (Nat → Int32) →  Prop} {L w i : Nat} {kd : Nat → Int32} (hL : L ≤ 32) (hi : i < L) (hk : ∀ j, j < L → a_kind j = kd j)
    (k : J (nI (i + 1)) f_cap f_depth f_size f_paragraph f_lines f_resolved f_top f_overflowIsolates f_overflowEmbeddings f_validIsolates (nI L) f_seqLevel (nI w) f_sos f_eos f_openCount a_text a_breakAfter a_partner a_level a_type a_prevKept a_nextKept a_implicit a_pair a_valid a_taken a_stackLevel a_stackOverride a_stackIsolate a_seq (bi_fl a_kind i (bi_en kd L i) (bi_nv w f_sos f_eos L kd i)) a_mate a_openAt a_wasMark a_lineFirst a_lineSlot a_lineLv a_order a_place) :
    ∀ (n e : Nat), L - e < n → i ≤ e → e ≤ L → bi_en kd L e = bi_en kd L i → wX_resolveNeutrals_12 post J (nI i) f_cap f_depth f_size f_paragraph f_lines f_resolved f_top f_overflowIsolates f_overflowEmbeddings f_validIsolates (nI L) f_seqLevel (nI w) f_sos f_eos f_openCount a_text a_breakAfter a_partner a_level a_type a_prevKept a_nextKept a_implicit a_pair a_valid a_taken a_stackLevel a_stackOverride a_stackIsolate a_seq a_kind a_mate a_openAt a_wasMark a_lineFirst a_lineSlot a_lineLv a_order a_place n (nI e) := by
  intro n
  induction n with
  | zero => intro e h; omega
  | succ n ih =>
    intro e hn h1 h2 h3
    have h39 : e = bi_en kd L i → wX_resolveNeutrals_39 post J (nI i) (nI e) f_cap f_depth f_size f_paragraph f_lines f_resolved f_top f_overflowIsolates f_overflowEmbeddings f_validIsolates (nI L) f_seqLevel (nI w) f_sos f_eos f_openCount a_text a_breakAfter a_partner a_level a_type a_prevKept a_nextKept a_implicit a_pair a_valid a_taken a_stackLevel a_stackOverride a_stackIsolate a_seq a_kind a_mate a_openAt a_wasMark a_lineFirst a_lineSlot a_lineLv a_order a_place := by
      intro he
      have h107 : ∀ v : Int32, v = bi_nv w f_sos f_eos L kd i → wX_resolveNeutrals_107 post J (nI i) v (nI e) (nI i) f_cap f_depth f_size f_paragraph f_lines f_resolved f_top f_overflowIsolates f_overflowEmbeddings f_validIsolates (nI L) f_seqLevel (nI w) f_sos f_eos f_openCount a_text a_breakAfter a_partner a_level a_type a_prevKept a_nextKept a_implicit a_pair a_valid a_taken a_stackLevel a_stackOverride a_stackIsolate a_seq a_kind a_mate a_openAt a_wasMark a_lineFirst a_lineSlot a_lineLv a_order a_place := by
        intro v hv
        unfold wX_resolveNeutrals_107
        subst hv
        rw [he] at h1 h2 ⊢
        exact bx_fill h1 (by omega) (nm_r (nI_1 i) k)
      have h88 : wX_resolveNeutrals_88 post J (nI i) (nI e) (bi_bf f_sos kd i) (bi_at f_eos L kd e) f_cap f_depth f_size f_paragraph f_lines f_resolved f_top f_overflowIsolates f_overflowEmbeddings f_validIsolates (nI L) f_seqLevel (nI w) f_sos f_eos f_openCount a_text a_breakAfter a_partner a_level a_type a_prevKept a_nextKept a_implicit a_pair a_valid a_taken a_stackLevel a_stackOverride a_stackIsolate a_seq a_kind a_mate a_openAt a_wasMark a_lineFirst a_lineSlot a_lineLv a_order a_place := by
        refine br_c (fun q => h107 _ ?_) (fun q => h107 _ ?_)
        · unfold bi_nv; rw [← he, if_pos q]
        · unfold bi_nv; rw [← he, if_neg q]
      have h62 : wX_resolveNeutrals_62 post J (nI i) (nI e) (bi_bf f_sos kd i) f_cap f_depth f_size f_paragraph f_lines f_resolved f_top f_overflowIsolates f_overflowEmbeddings f_validIsolates (nI L) f_seqLevel (nI w) f_sos f_eos f_openCount a_text a_breakAfter a_partner a_level a_type a_prevKept a_nextKept a_implicit a_pair a_valid a_taken a_stackLevel a_stackOverride a_stackIsolate a_seq a_kind a_mate a_openAt a_wasMark a_lineFirst a_lineSlot a_lineLv a_order a_place := by
        unfold wX_resolveNeutrals_62
        unfold bi_at at h88
        by_cases z : e = L
        · rw [if_pos z] at h88
          exact br_t (by rw [z]) h88
        · rw [if_neg z] at h88
          refine br_f (fun q => z ((nI_eq (by omega) (by omega)).mp q)) (And.intro (vp_in_nI (by omega) (by omega)) ?_)
          rw [nI_clamp (n := e) (by omega), hk e (by omega)]
          exact bx_str h88
      unfold wX_resolveNeutrals_39
      unfold bi_bf at h62
      by_cases z : i = 0
      · rw [if_pos z] at h62
        exact br_t ((bi_eq0 (by omega)).mpr z) h62
      · rw [if_neg z] at h62
        refine br_f (fun q => z ((bi_eq0 (by omega)).mp q)) ?_
        rw [bi_p1 (by omega), nI_clamp (n := i - 1) (by omega), hk (i - 1) (by omega)]
        exact And.intro (vp_in_nI (by omega) (by omega)) (bx_str h62)
    by_cases z : L ≤ e
    · exact br_t (nI_le z (by omega)) (h39 (by rw [← h3, bi_en_end z]; omega))
    · refine br_f (nI_ge (by omega) (by omega)) ?_
      rw [nI_clamp (n := e) (by omega), hk e (by omega)]
      rw [bi_en_eq (by omega)] at h3
      refine And.intro (vp_in_nI (by omega) (by omega)) (bx_ifN (fun q => h39 ?_) (fun q => nm_r (nI_1 e) (ih (e + 1) (by omega) (by omega) (by omega) ?_)))
      · rw [if_neg q] at h3; exact h3
      · rw [if_pos q] at h3; exact h3
theorem bx_nn_loop {post : SX → Prop} {L w : Nat} {kd : Nat → Int32} (hL : L ≤ 32) (hC : ∀ kd' : Nat → Int32, (∀ j, j < L → kd' j = bi_nn w f_sos f_eos L kd L j) → post (f_cap, f_depth, f_size, f_paragraph, f_lines, f_resolved, f_top, f_overflowIsolates, f_overflowEmbeddings, f_validIsolates, nI L, f_seqLevel, nI w, f_sos, f_eos, f_openCount, a_text, a_breakAfter, a_partner, a_level, a_type, a_prevKept, a_nextKept, a_implicit, a_pair, a_valid, a_taken, a_stackLevel, a_stackOverride, a_stackIsolate, a_seq, kd', a_mate, a_openAt, a_wasMark, a_lineFirst, a_lineSlot, a_lineLv, a_order, a_place)) :
    ∀ (n i : Nat) (kx : Nat → Int32), L - i < n → i ≤ L → (∀ j, j < L → kx j = bi_nn w f_sos f_eos L kd i j) → wX_resolveNeutrals_2 post n (nI i) f_cap f_depth f_size f_paragraph f_lines f_resolved f_top f_overflowIsolates f_overflowEmbeddings f_validIsolates (nI L) f_seqLevel (nI w) f_sos f_eos f_openCount a_text a_breakAfter a_partner a_level a_type a_prevKept a_nextKept a_implicit a_pair a_valid a_taken a_stackLevel a_stackOverride a_stackIsolate a_seq kx a_mate a_openAt a_wasMark a_lineFirst a_lineSlot a_lineLv a_order a_place := by
  intro n
  induction n with
  | zero => intro i kx h; omega
  | succ n ih =>
    intro i kx hn hi h
    by_cases z : L ≤ i
    · have e : i = L := by omega
      subst e
      exact br_t (nI_le z (by omega)) (hC kx h)
    · refine br_f (nI_ge (by omega) (by omega)) (Exists.intro 33 (bx_n12 (kd := bi_nn w f_sos f_eos L kd i) hL (by omega) h (ih (i + 1) _ (by omega) (by omega) (fun j hj => ?_)) 33 i (by omega) (Nat.le_refl _) hi rfl))
      simp only [bi_nn]
      by_cases v : i ≤ j ∧ j < bi_en (bi_nn w f_sos f_eos L kd i) L i
      · rw [bi_fl_in v.1 v.2, bi_fl_in v.1 v.2]
      · rw [bi_fl_out v, bi_fl_out v]; exact h j hj
theorem bx_nn {post : SX → Prop} {L w : Nat} {kd : Nat → Int32} (hL : L ≤ 32) (h : ∀ j, j < L → a_kind j = kd j) (hC : ∀ kd' : Nat → Int32, (∀ j, j < L → kd' j = bi_nn w f_sos f_eos L kd L j) → post (f_cap, f_depth, f_size, f_paragraph, f_lines, f_resolved, f_top, f_overflowIsolates, f_overflowEmbeddings, f_validIsolates, nI L, f_seqLevel, nI w, f_sos, f_eos, f_openCount, a_text, a_breakAfter, a_partner, a_level, a_type, a_prevKept, a_nextKept, a_implicit, a_pair, a_valid, a_taken, a_stackLevel, a_stackOverride, a_stackIsolate, a_seq, kd', a_mate, a_openAt, a_wasMark, a_lineFirst, a_lineSlot, a_lineLv, a_order, a_place)) : wpX_resolveNeutrals post (f_cap, f_depth, f_size, f_paragraph, f_lines, f_resolved, f_top, f_overflowIsolates, f_overflowEmbeddings, f_validIsolates, nI L, f_seqLevel, nI w, f_sos, f_eos, f_openCount, a_text, a_breakAfter, a_partner, a_level, a_type, a_prevKept, a_nextKept, a_implicit, a_pair, a_valid, a_taken, a_stackLevel, a_stackOverride, a_stackIsolate, a_seq, a_kind, a_mate, a_openAt, a_wasMark, a_lineFirst, a_lineSlot, a_lineLv, a_order, a_place) :=
  Exists.intro 33 (bx_nn_loop hL hC 33 0 a_kind (by omega) (by omega) h)
theorem bx_sl_loop {post : SX → Prop} {L w e : Nat} {s : Nat → Nat} {kd : Nat → Int32} (hL : L ≤ 32) (hq : bi_SQ L s a_seq) (hw : w < 2) (h : ∀ j, j < L → a_kind j = kd j)
    (hC : ∀ im : Nat → Int32, (∀ j, j < L → im (s j) = nI (e + bi_ri w (kd j))) → (∀ p, (∀ j, j < L → p ≠ s j) → im p = a_implicit p) → post (f_cap, f_depth, f_size, f_paragraph, f_lines, f_resolved, f_top, f_overflowIsolates, f_overflowEmbeddings, f_validIsolates, nI L, nI e, nI w, f_sos, f_eos, f_openCount, a_text, a_breakAfter, a_partner, a_level, a_type, a_prevKept, a_nextKept, im, a_pair, a_valid, a_taken, a_stackLevel, a_stackOverride, a_stackIsolate, a_seq, a_kind, a_mate, a_openAt, a_wasMark, a_lineFirst, a_lineSlot, a_lineLv, a_order, a_place)) :
    ∀ (n i : Nat) (im : Nat → Int32), L - i < n → i ≤ L → (∀ j, j < i → im (s j) = nI (e + bi_ri w (kd j))) → (∀ p, (∀ j, j < i → p ≠ s j) → im p = a_implicit p) → wX_storeLevels_2 post f_cap f_depth f_size f_paragraph f_lines f_resolved f_top f_overflowIsolates f_overflowEmbeddings f_validIsolates (nI L) (nI e) (nI w) f_sos f_eos f_openCount n (nI i) a_text a_breakAfter a_partner a_level a_type a_prevKept a_nextKept im a_pair a_valid a_taken a_stackLevel a_stackOverride a_stackIsolate a_seq a_kind a_mate a_openAt a_wasMark a_lineFirst a_lineSlot a_lineLv a_order a_place := by
  intro n
  induction n with
  | zero => intro i im h; omega
  | succ n ih =>
    intro i im hn hi h1 h2
    by_cases z : L ≤ i
    · have e : i = L := by omega
      subst e
      exact br_t (nI_le z (by omega)) (hC im h1 h2)
    · obtain ⟨q1, q2⟩ := hq.1 i (by omega)
      have hv := vp_in_nI (n := i) (N := 32) (by omega) (by omega)
      have h49 : ∀ r : Nat, r = bi_ri w (kd i) → wX_storeLevels_49 post (wX_storeLevels_2 post f_cap f_depth f_size f_paragraph f_lines f_resolved f_top f_overflowIsolates f_overflowEmbeddings f_validIsolates (nI L) (nI e) (nI w) f_sos f_eos f_openCount n) (nI i) (nI r) f_cap f_depth f_size f_paragraph f_lines f_resolved f_top f_overflowIsolates f_overflowEmbeddings f_validIsolates (nI L) (nI e) (nI w) f_sos f_eos f_openCount a_text a_breakAfter a_partner a_level a_type a_prevKept a_nextKept im a_pair a_valid a_taken a_stackLevel a_stackOverride a_stackIsolate a_seq a_kind a_mate a_openAt a_wasMark a_lineFirst a_lineSlot a_lineLv a_order a_place := by
        intro r hr
        unfold wX_storeLevels_49
        rw [nI_clamp (n := i) (by omega), q1, nI_clamp (n := s i) (by omega), nI_add, hr]
        refine And.intro hv (And.intro (vp_in_nI q2 (by omega)) (nm_e (nm_r (nI_1 i) (ih (i + 1) _ (by omega) (by omega) (fun j hj => ?_) (fun p hp => ?_)))))
        · by_cases e : j = i
          · rw [e, pk_us]
          · rw [pk_un (fun v => e (hq.2 j i (by omega) (by omega) v))]
            exact h1 j (by omega)
        · rw [pk_un (hp i (by omega))]
          exact h2 p (fun j hj => hp j (by omega))
      refine br_f (nI_ge (by omega) (by omega)) ?_
      rw [nI_clamp (n := i) (by omega), h i (by omega)]
      refine And.intro hv (br_c (fun q => h49 0 ?_) (fun q => ?_))
      · unfold bi_ri; rw [if_pos q]
      · by_cases w0 : w = 0
        · subst w0
          refine br_t (by decide) (And.intro hv (br_c (fun v => h49 1 ?_) (fun v => h49 2 ?_)))
          · unfold bi_ri; rw [if_neg q, if_pos rfl, if_pos v]
          · unfold bi_ri; rw [if_neg q, if_pos rfl, if_neg v]
        · refine br_f (fun v => w0 ((bi_eq0 (by omega)).mp v)) (h49 1 ?_)
          unfold bi_ri; rw [if_neg q, if_neg w0]
theorem bx_sl {post : SX → Prop} {L w e : Nat} {s : Nat → Nat} {kd : Nat → Int32} (hL : L ≤ 32) (hq : bi_SQ L s a_seq) (hw : w < 2) (h : ∀ j, j < L → a_kind j = kd j)
    (hC : ∀ im : Nat → Int32, (∀ j, j < L → im (s j) = nI (e + bi_ri w (kd j))) → (∀ p, (∀ j, j < L → p ≠ s j) → im p = a_implicit p) → post (f_cap, f_depth, f_size, f_paragraph, f_lines, f_resolved, f_top, f_overflowIsolates, f_overflowEmbeddings, f_validIsolates, nI L, nI e, nI w, f_sos, f_eos, f_openCount, a_text, a_breakAfter, a_partner, a_level, a_type, a_prevKept, a_nextKept, im, a_pair, a_valid, a_taken, a_stackLevel, a_stackOverride, a_stackIsolate, a_seq, a_kind, a_mate, a_openAt, a_wasMark, a_lineFirst, a_lineSlot, a_lineLv, a_order, a_place)) : wpX_storeLevels post (f_cap, f_depth, f_size, f_paragraph, f_lines, f_resolved, f_top, f_overflowIsolates, f_overflowEmbeddings, f_validIsolates, nI L, nI e, nI w, f_sos, f_eos, f_openCount, a_text, a_breakAfter, a_partner, a_level, a_type, a_prevKept, a_nextKept, a_implicit, a_pair, a_valid, a_taken, a_stackLevel, a_stackOverride, a_stackIsolate, a_seq, a_kind, a_mate, a_openAt, a_wasMark, a_lineFirst, a_lineSlot, a_lineLv, a_order, a_place) :=
  Exists.intro 33 (bx_sl_loop hL hq hw h hC 33 0 a_implicit (by omega) (by omega) (fun j hj => by omega) (fun p _ => rfl))
end
section
variable {g_cap g_depth g_len g_para g_count g_e g_way g_sos g_eos g_done : Int32} {b_text b_cut b_pair b_res b_level b_over b_type b_first b_seq b_open b_stLevel b_stOver b_stIso : Nat → Int32}
theorem by_ifN {A B : Prop} {L j : Nat} {s : Nat → Nat} {c : Int32} (hL : L ≤ 32) (hq : bi_SQ L s b_seq) (hj : j < L) (hc : b_type (s j) = c) (h22 : c ≤ 22) (h0 : ¬ bi_ne c → A) (h1 : bi_ne c → B) : wpY_neutral (fun r => (r = 0 → A) ∧ (¬ r = 0 → B)) (g_cap, g_depth, g_len, g_para, nI L, g_e, g_way, g_sos, g_eos, g_done, b_text, b_cut, b_pair, b_res, b_level, b_over, b_type, b_first, b_seq, b_open, b_stLevel, b_stOver, b_stIso) (nI j) := by
  unfold wpY_neutral
  refine by_ty_in hL hq hj ?_
  rw [hc]
  have h18 : ¬ (¬ c < 10 ∧ c ≤ 13) → wY_neutral_18 (fun r => (r = 0 → A) ∧ (¬ r = 0 → B)) c g_cap g_depth g_len g_para (nI L) g_e g_way g_sos g_eos g_done b_text b_cut b_pair b_res b_level b_over b_type b_first b_seq b_open b_stLevel b_stOver b_stIso := by
    intro q
    exact br_c (fun a => br_t rfl (h0 (fun z => z.elim q (fun w => w.1 a)))) (fun a => br_f (by decide) (h1 (Or.inr ⟨a, Int32.not_lt.mpr h22⟩)))
  exact br_c (fun a => h18 (fun z => z.1 a)) (fun a => br_c (fun b => br_f (by decide) (h1 (Or.inl ⟨a, b⟩))) (fun b => h18 (fun z => b z.2)))
theorem by_66 {post : SY → Prop} {J : Int32 →  (Nat → Int32) → (Nat → Int32) → (Nat → Int32) → (Nat → Int32) → (Nat → Int32) → (Nat → Int32) → (Nat → Int32) → (Nat → Int32) → (Nat → Int32) → (Nat → Int32) → (Nat → Int32) → (Nat → Int32) → (Nat → Int32) →  Prop} {L w i e : Nat} {s : Nat → Nat} {kd ty0 : Nat → Int32} {x y v : Int32} (hL : L ≤ 32) (he : e ≤ L) (hq : bi_SQ L s b_seq) (hv : i < e → v = if x = y then x else nI w)
    (hC : ∀ ty : Nat → Int32, (∀ j, j < L → ty (s j) = bi_fl kd i e v j) → (∀ p, (∀ j, j < L → p ≠ s j) → ty p = ty0 p) → J (nI (i + 1)) b_text b_cut b_pair b_res b_level b_over ty b_first b_seq b_open b_stLevel b_stOver b_stIso) :
    ∀ (n a : Nat) (ty : Nat → Int32), e - a < n → i ≤ a → a ≤ e → (∀ j, j < L → ty (s j) = bi_fl kd i a v j) → (∀ p, (∀ j, j < L → p ≠ s j) → ty p = ty0 p) → wY_neutrals_66 post J (nI i) (nI e) x y g_cap g_depth g_len g_para (nI L) g_e (nI w) g_sos g_eos g_done n (nI a) b_text b_cut b_pair b_res b_level b_over ty b_first b_seq b_open b_stLevel b_stOver b_stIso := by
  intro n
  induction n with
  | zero => intro a ty h; omega
  | succ n ih =>
    intro a ty hn h1 h2 h3 h4
    by_cases z : e ≤ a
    · have ee : a = e := by omega
      subst ee
      exact br_t (nI_le z (by omega)) (nm_r (nI_1 i) (hC ty h3 h4))
    · obtain ⟨q1, q2⟩ := hq.1 a (by omega)
      have hv' := hv (by omega)
      refine br_f (nI_ge (by omega) (by omega)) ?_
      rw [nI_clamp (n := a) (by omega), q1, nI_clamp (n := s a) (by omega)]
      have nx : wY_neutrals_66 post J (nI i) (nI e) x y g_cap g_depth g_len g_para (nI L) g_e (nI w) g_sos g_eos g_done n (nI (a + 1)) b_text b_cut b_pair b_res b_level b_over (upd ty (s a) v) b_first b_seq b_open b_stLevel b_stOver b_stIso := by
        refine ih (a + 1) _ (by omega) (by omega) (by omega) (fun j hj => ?_) (fun p hp => by rw [pk_un (hp a (by omega))]; exact h4 p hp)
        by_cases u : j = a
        · rw [u, pk_us, bi_fl_in h1 (by omega)]
        · rw [pk_un (fun t => u (hq.2 j a hj (by omega) t)), h3 j hj]
          by_cases t : i ≤ j ∧ j < a
          · rw [bi_fl_in t.1 t.2, bi_fl_in t.1 (by omega)]
          · rw [bi_fl_out t, bi_fl_out (by omega)]
      refine And.intro (vp_in_nI (by omega) (by omega)) (br_c (fun q => And.intro (vp_in_nI q2 (by omega)) ?_) (fun q => And.intro (vp_in_nI q2 (by omega)) ?_))
      · rw [if_pos q] at hv'
        exact nm_r (e' := upd ty (s a) v) (by rw [hv']) (nm_r (nI_1 a) nx)
      · rw [if_neg q] at hv'
        exact nm_r (e' := upd ty (s a) v) (by rw [hv']) (nm_r (nI_1 a) nx)
theorem by_n12 {post : SY → Prop} {J : Int32 →  (Nat → Int32) → (Nat → Int32) → (Nat → Int32) → (Nat → Int32) → (Nat → Int32) → (Nat → Int32) → (Nat → Int32) → (Nat → Int32) → (Nat → Int32) → (Nat → Int32) → (Nat → Int32) → (Nat → Int32) → (Nat → Int32) →  Prop} {L w i : Nat} {s : Nat → Nat} {kd ty0 : Nat → Int32} (hL : L ≤ 32) (hi : i < L) (hs : g_sos = 0 ∨ g_sos = 1) (he : g_eos = 0 ∨ g_eos = 1) (hq : bi_SQ L s b_seq) (hk : ∀ j, j < L → b_type (s j) = kd j) (hf : ∀ p, (∀ j, j < L → p ≠ s j) → b_type p = ty0 p)
    (hr : ∀ j, j < L → bi_kr (kd j) ∧ (j < i → ¬ bi_ne (kd j)))
    (hC : ∀ ty : Nat → Int32, (∀ j, j < L → ty (s j) = bi_fl kd i (bi_en kd L i) (bi_nv w g_sos g_eos L kd i) j) → (∀ p, (∀ j, j < L → p ≠ s j) → ty p = ty0 p) → J (nI (i + 1)) b_text b_cut b_pair b_res b_level b_over ty b_first b_seq b_open b_stLevel b_stOver b_stIso) :
    ∀ (n e : Nat), L - e < n → i ≤ e → e ≤ L → bi_en kd L e = bi_en kd L i → wY_neutrals_12 post J (nI i) g_cap g_depth g_len g_para (nI L) g_e (nI w) g_sos g_eos g_done b_text b_cut b_pair b_res b_level b_over b_type b_first b_seq b_open b_stLevel b_stOver b_stIso n (nI e) := by
  have so1 : bi_sg g_sos = g_sos := by rcases hs with q | q <;> rw [q] <;> decide
  have eo1 : bi_sg g_eos = g_eos := by rcases he with q | q <;> rw [q] <;> decide
  obtain ⟨sp1, sp2, sp3⟩ := bi_en_sp (kd := kd) (L := L) (i := i) rfl (by omega)
  intro n
  induction n with
  | zero => intro e h; omega
  | succ n ih =>
    intro e hn h1 h2 h3
    have h34 : e = bi_en kd L i → wY_neutrals_34 post J (nI i) (nI e) g_cap g_depth g_len g_para (nI L) g_e (nI w) g_sos g_eos g_done b_text b_cut b_pair b_res b_level b_over b_type b_first b_seq b_open b_stLevel b_stOver b_stIso := by
      intro hee
      unfold wY_neutrals_34
      have fin : ∀ x y : Int32, (i < e → x = bi_bf g_sos kd i) → (i < e → y = bi_at g_eos L kd e) → ∃ n66 : Nat, wY_neutrals_66 post J (nI i) (nI e) x y g_cap g_depth g_len g_para (nI L) g_e (nI w) g_sos g_eos g_done n66 (nI i) b_text b_cut b_pair b_res b_level b_over b_type b_first b_seq b_open b_stLevel b_stOver b_stIso := by
        intro x y hx hy
        refine ⟨33, by_66 (kd := kd) (ty0 := ty0) (v := bi_nv w g_sos g_eos L kd i) hL h2 hq (fun q => ?_) (by rw [hee]; exact hC) 33 i b_type (by omega) (Nat.le_refl _) h1 (fun j hj => ?_) hf⟩
        · rw [hx q, hy q]; unfold bi_nv; rw [← hee]
        · rw [bi_fl_0 (Nat.le_refl _)]; exact hk j hj
      have mid : ∀ p : Int32, (i < e → bi_sg p = bi_bf g_sos kd i) → wpY_typeAt (fun r_27 => (wpY_strong (fun r_51 => (wpY_strong (fun r_75 => (∃ n66 : Nat, wY_neutrals_66 post J (nI i) (nI e) r_51 r_75 g_cap g_depth g_len g_para (nI L) g_e (nI w) g_sos g_eos g_done n66 (nI i) b_text b_cut b_pair b_res b_level b_over b_type b_first b_seq b_open b_stLevel b_stOver b_stIso)) (g_cap, g_depth, g_len, g_para, nI L, g_e, nI w, g_sos, g_eos, g_done, b_text, b_cut, b_pair, b_res, b_level, b_over, b_type, b_first, b_seq, b_open, b_stLevel, b_stOver, b_stIso) r_27)) (g_cap, g_depth, g_len, g_para, nI L, g_e, nI w, g_sos, g_eos, g_done, b_text, b_cut, b_pair, b_res, b_level, b_over, b_type, b_first, b_seq, b_open, b_stLevel, b_stOver, b_stIso) p)) (g_cap, g_depth, g_len, g_para, nI L, g_e, nI w, g_sos, g_eos, g_done, b_text, b_cut, b_pair, b_res, b_level, b_over, b_type, b_first, b_seq, b_open, b_stLevel, b_stOver, b_stIso) (nI e) := by
        intro p hp
        by_cases z : e = L
        · refine by_ty_end hL (by omega) (by omega) (by_str (by_str (fin _ _ hp (fun _ => ?_))))
          unfold bi_at; rw [if_pos z]; exact eo1
        · refine by_ty_in hL hq (by omega) ?_
          rw [hk e (by omega)]
          refine by_str (by_str (fin _ _ hp (fun q => ?_)))
          unfold bi_at; rw [if_neg z]
          rw [← hee] at sp3
          exact (bi_k4_st (bi_k4 (hr e (by omega)).1 (sp3 (by omega)))).1
      by_cases z : i = 0
      · subst z
        refine by_ty_m (by decide) (mid _ (fun _ => ?_))
        unfold bi_bf; rw [if_pos rfl]; exact so1
      · rw [bi_p1 (by omega)]
        refine by_ty_in hL hq (by omega) ?_
        rw [hk (i - 1) (by omega)]
        refine mid _ (fun _ => ?_)
        unfold bi_bf; rw [if_neg z]
        exact (bi_k4_st (bi_k4 (hr (i - 1) (by omega)).1 ((hr (i - 1) (by omega)).2 (by omega)))).1
    by_cases z : L ≤ e
    · exact br_t (nI_le z (by omega)) (h34 (by rw [← h3, bi_en_end z]; omega))
    · rw [bi_en_eq (by omega)] at h3
      refine br_f (nI_ge (by omega) (by omega)) (by_ifN hL hq (by omega) (hk e (by omega)) (hr e (by omega)).1.1.2.1 (fun q => h34 ?_) (fun q => nm_r (nI_1 e) (ih (e + 1) (by omega) (by omega) (by omega) ?_)))
      · rw [if_neg q] at h3; exact h3
      · rw [if_pos q] at h3; exact h3
theorem by_nn_loop {post : SY → Prop} {L w : Nat} {s : Nat → Nat} {kd ty0 : Nat → Int32} (hL : L ≤ 32) (hw : w < 2) (hs : g_sos = 0 ∨ g_sos = 1) (he : g_eos = 0 ∨ g_eos = 1) (hq : bi_SQ L s b_seq) (hr : ∀ j, j < L → bi_kr (kd j))
    (hC : ∀ ty : Nat → Int32, (∀ j, j < L → ty (s j) = bi_nn w g_sos g_eos L kd L j) → (∀ p, (∀ j, j < L → p ≠ s j) → ty p = ty0 p) → post (g_cap, g_depth, g_len, g_para, nI L, g_e, nI w, g_sos, g_eos, g_done, b_text, b_cut, b_pair, b_res, b_level, b_over, ty, b_first, b_seq, b_open, b_stLevel, b_stOver, b_stIso)) :
    ∀ (n i : Nat) (ty : Nat → Int32), L - i < n → i ≤ L → (∀ j, j < L → ty (s j) = bi_nn w g_sos g_eos L kd i j) → (∀ p, (∀ j, j < L → p ≠ s j) → ty p = ty0 p) → wY_neutrals_2 post g_cap g_depth g_len g_para (nI L) g_e (nI w) g_sos g_eos g_done n (nI i) b_text b_cut b_pair b_res b_level b_over ty b_first b_seq b_open b_stLevel b_stOver b_stIso := by
  intro n
  induction n with
  | zero => intro i ty h; omega
  | succ n ih =>
    intro i ty hn hi h h2
    by_cases z : L ≤ i
    · have e : i = L := by omega
      subst e
      exact br_t (nI_le z (by omega)) (hC ty h h2)
    · exact br_f (nI_ge (by omega) (by omega)) (Exists.intro 33 (by_n12 (kd := bi_nn w g_sos g_eos L kd i) (ty0 := ty0) hL (by omega) hs he hq h h2 (bi_nn_ok hw hs hr i (by omega)) (fun ty' a1 a2 => ih (i + 1) ty' (by omega) (by omega) a1 a2) 33 i (by omega) (Nat.le_refl _) hi rfl))
theorem by_nn {post : SY → Prop} {L w : Nat} {s : Nat → Nat} {kd ty0 : Nat → Int32} (hL : L ≤ 32) (hw : w < 2) (hs : g_sos = 0 ∨ g_sos = 1) (he : g_eos = 0 ∨ g_eos = 1) (hq : bi_SQ L s b_seq) (hr : ∀ j, j < L → bi_kr (kd j)) (hk : ∀ j, j < L → b_type (s j) = kd j) (hf : ∀ p, (∀ j, j < L → p ≠ s j) → b_type p = ty0 p)
    (hC : ∀ ty : Nat → Int32, (∀ j, j < L → ty (s j) = bi_nn w g_sos g_eos L kd L j) → (∀ p, (∀ j, j < L → p ≠ s j) → ty p = ty0 p) → post (g_cap, g_depth, g_len, g_para, nI L, g_e, nI w, g_sos, g_eos, g_done, b_text, b_cut, b_pair, b_res, b_level, b_over, ty, b_first, b_seq, b_open, b_stLevel, b_stOver, b_stIso)) : wpY_neutrals post (g_cap, g_depth, g_len, g_para, nI L, g_e, nI w, g_sos, g_eos, g_done, b_text, b_cut, b_pair, b_res, b_level, b_over, b_type, b_first, b_seq, b_open, b_stLevel, b_stOver, b_stIso) :=
  Exists.intro 33 (by_nn_loop hL hw hs he hq hr hC 33 0 b_type (by omega) (by omega) hk hf)
theorem by_272_loop {post : SY → Prop} {L w e : Nat} {s : Nat → Nat} {kd : Nat → Int32} (hL : L ≤ 32) (hq : bi_SQ L s b_seq) (hw : w = e % 2) (he : e < 2 ^ 30) (h : ∀ j, j < L → b_type (s j) = kd j)
    (hC : ∀ rs : Nat → Int32, (∀ j, j < L → rs (s j) = nI (e + bi_ri w (kd j))) → (∀ p, (∀ j, j < L → p ≠ s j) → rs p = b_res p) → post (g_cap, g_depth, g_len, g_para, nI L, nI e, g_way, g_sos, g_eos, g_done, b_text, b_cut, b_pair, rs, b_level, b_over, b_type, b_first, b_seq, b_open, b_stLevel, b_stOver, b_stIso)) :
    ∀ (n i : Nat) (rs : Nat → Int32), L - i < n → i ≤ L → (∀ j, j < i → rs (s j) = nI (e + bi_ri w (kd j))) → (∀ p, (∀ j, j < i → p ≠ s j) → rs p = b_res p) → wY_sequence_272 post g_cap g_depth g_len g_para (nI L) (nI e) g_way g_sos g_eos g_done n (nI i) b_text b_cut b_pair rs b_level b_over b_type b_first b_seq b_open b_stLevel b_stOver b_stIso := by
  intro n
  induction n with
  | zero => intro i rs h; omega
  | succ n ih =>
    intro i rs hn hi h1 h2
    by_cases z : L ≤ i
    · have ee : i = L := by omega
      subst ee
      exact br_t (nI_le z (by omega)) (hC rs h1 h2)
    · obtain ⟨q1, q2⟩ := hq.1 i (by omega)
      have hv := vp_in_nI (n := i) (N := 32) (by omega) (by omega)
      have hvs := vp_in_nI (n := s i) (N := 32) q2 (by omega)
      have nx : ∀ v : Int32, v = nI (e + bi_ri w (kd i)) → wY_sequence_272 post g_cap g_depth g_len g_para (nI L) (nI e) g_way g_sos g_eos g_done n (nI (i + 1)) b_text b_cut b_pair (upd rs (s i) v) b_level b_over b_type b_first b_seq b_open b_stLevel b_stOver b_stIso := by
        intro v hv
        refine ih (i + 1) _ (by omega) (by omega) (fun j hj => ?_) (fun p hp => ?_)
        · by_cases u : j = i
          · rw [u, pk_us]; exact hv
          · rw [pk_un (fun t => u (hq.2 j i (by omega) (by omega) t))]
            exact h1 j (by omega)
        · rw [pk_un (hp i (by omega))]
          exact h2 p (fun j hj => hp j (by omega))
      refine br_f (nI_ge (by omega) (by omega)) ?_
      have e2 : nI e - nI e / 2 * 2 = nI (e % 2) := pk_rem (d := 2) (by omega) (by omega) (by omega)
      rw [nI_clamp (n := i) (by omega), q1, nI_clamp (n := s i) (by omega), h i (by omega), e2, ← hw]
      refine And.intro hv (And.intro hvs (nm_e (And.intro hv (And.intro (by decide) ?_))))
      have w01 : w = 0 ∨ w = 1 := by omega
      rcases w01 with w0 | w1
      · rw [w0] at nx
        refine br_f (by rw [w0]; decide) (br_c (fun a => And.intro hvs (nm_e (nm_r (nI_1 i) (nx _ ?_)))) (fun a => br_c (fun b => And.intro hvs (nm_e (nm_r (nI_1 i) (nx _ ?_)))) (fun b => And.intro hvs (nm_e (nm_r (nI_1 i) (nx _ ?_))))))
        · unfold bi_ri; rw [if_pos (show kd i = nI 0 from a)]; rfl
        · unfold bi_ri; rw [if_neg (show ¬ kd i = nI 0 from a), if_pos rfl, if_pos b, nI_1]
        · unfold bi_ri; rw [if_neg (show ¬ kd i = nI 0 from a), if_pos rfl, if_neg b]; exact nI_add e 2
      · rw [w1] at nx
        refine br_t (by rw [w1]; decide) (br_c (fun a => And.intro hvs (nm_e (nm_r (nI_1 i) (nx _ ?_)))) (fun a => And.intro hvs (nm_e (nm_r (nI_1 i) (nx _ ?_)))))
        · unfold bi_ri; rw [if_pos (show kd i = nI 1 from a)]; rfl
        · unfold bi_ri; rw [if_neg (show ¬ kd i = nI 1 from a), if_neg (by decide), nI_1]
end
end
section
/-! one sequence, whole -/
theorem bi_tt01 {w : Nat} {so : Int32} {kd : Nat → Int32} {a b : Nat} (hw : w < 2) (hs : so = 0 ∨ so = 1) (h : ¬ bi_tt w so kd a b = -1) : bi_tt w so kd a b = 0 ∨ bi_tt w so kd a b = 1 := by
  by_cases s : bi_Sm w kd a b
  · rw [bi_tt_s s]
    have : w = 0 ∨ w = 1 := by omega
    rcases this with q | q <;> rw [q]
    · exact Or.inl rfl
    · exact Or.inr rfl
  · by_cases o : bi_Op w kd a b
    · rw [bi_tt_o s o]; exact bi_ctx01 hs a
    · exact absurd (bi_tt_n s o) h
theorem bi_pq_r {k0 : Nat → Int32} {L : Nat} {t : Int32} (ht : bi_kr t) : ∀ {f n : Nat} {kd : Nat → Int32}, (∀ j, j < L → bi_kr (kd j)) → ∀ j, j < L → bi_kr (bi_pq k0 L t f n kd j)
  | 0, _, _, h => h
  | f + 1, n, kd, h => by
    intro j hj
    simp only [bi_pq]
    by_cases z : n < L ∧ k0 n = 8
    · rw [if_pos z]
      refine bi_pq_r ht (f := f) (fun j hj => ?_) j hj
      by_cases e : j = n
      · rw [e, pk_us]; exact ht
      · rw [pk_un e]; exact h j hj
    · rw [if_neg z]; exact h j hj
theorem bi_sb_r {k0 : Nat → Int32} {L k : Nat} {t : Int32} {kd : Nat → Int32} (ht : bi_kr t) (h : ∀ j, j < L → bi_kr (kd j)) : ∀ j, j < L → bi_kr (bi_sb k0 L t k kd j) := by
  refine bi_pq_r ht (fun j hj => ?_)
  by_cases e : j = k
  · rw [e, pk_us]; exact ht
  · rw [pk_un e]; exact h j hj
theorem bi_rp_r {w : Nat} {so : Int32} {k0 : Nat → Int32} {L : Nat} {bt kd : Nat → Int32} {pm : Nat → Option Nat} (hw : w < 2) (hs : so = 0 ∨ so = 1) (h : ∀ j, j < L → bi_kr (kd j)) : ∀ i, ∀ j, j < L → bi_kr (bi_rp w so k0 L bt pm kd i j) := by
  intro i
  induction i with
  | zero => exact h
  | succ i ih =>
    by_cases od : bt i &&& 1 = 1
    · cases hm : pm i with
      | none => rw [bi_rp_n (Or.inr hm)]; exact ih
      | some m =>
        rw [bi_rp_s od hm]
        by_cases q : bi_tt w so (bi_rp w so k0 L bt pm kd i) i m = -1
        · rw [if_pos q]; exact ih
        · rw [if_neg q]
          have t := (bi_01_kr (bi_tt01 hw hs q)).1
          exact bi_sb_r t (bi_sb_r t ih)
    · rw [bi_rp_n (Or.inl od)]; exact ih
/-- the pairs and the last types of a sequence -/
def bi_pms (so : Int32) (L : Nat) (k0 bt : Nat → Int32) : Nat → Option Nat := (bi_bs bt (bi_W so L k0) L).2.2
noncomputable def bi_fin (w : Nat) (so eo : Int32) (L : Nat) (k0 bt : Nat → Int32) : Nat → Int32 := bi_nn w so eo L (bi_rp w so k0 L bt (bi_pms so L k0 bt) (bi_W so L k0) L) L
theorem bi_pms_lt {so : Int32} {L : Nat} {k0 bt : Nat → Int32} {j m : Nat} (h : bi_pms so L k0 bt j = some m) : j < L ∧ m < L ∧ ¬ bt j ≤ 22 ∧ (bt j &&& 1 = 1 → j < m) := (bi_bs_ok bt (bi_W so L k0) L).2.2.2 j m h
theorem bi_n01 {n : Nat} (h : n < 2) : nI n = 0 ∨ nI n = 1 := by
  have : n = 0 ∨ n = 1 := by omega
  rcases this with q | q <;> rw [q]
  · exact Or.inl rfl
  · exact Or.inr rfl
section
variable {f_cap f_depth f_size f_paragraph f_lines f_resolved f_top f_overflowIsolates f_overflowEmbeddings f_validIsolates f_seqLen f_seqLevel f_runDir f_sos f_eos f_openCount : Int32} {a_text a_breakAfter a_partner a_level a_type a_prevKept a_nextKept a_implicit a_pair a_valid a_taken a_stackLevel a_stackOverride a_stackIsolate a_seq a_kind a_mate a_openAt a_wasMark a_lineFirst a_lineSlot a_lineLv a_order a_place : Nat → Int32}
theorem bx_seq {post : SX → Prop} {N P i L : Nat} {lv s : Nat → Nat} {k0 : Nat → Int32} (hN : N ≤ 32) (hP : P < 2 ^ 31) (hc : bi_CH a_text N lv a_valid i L s) (hp : bi_PM a_text N a_partner) (hV : ∀ k, k < N → ¬ a_valid k = 0 → a_valid k = 1 ∧ bi_I (a_text k))
    (hl : ∀ k, k < N → ¬ bi_R (a_text k) → a_level k = nI (lv k) ∧ lv k < 2 ^ 31) (hn : ∀ k, k < N → ¬ bi_R (a_text k) → a_nextKept k = bi_o (bi_nt a_text N (k + 1))) (hk : a_prevKept i = bi_o (bi_pv a_text i)) (ht : ∀ k, k < N → ¬ a_text k < 0) (h0 : ∀ j, j < L → a_type (s j) = k0 j)
    (hC : ∀ (oc : Int32) (tk sq kd wm mt oa pr im : Nat → Int32), (∀ k, k < L → tk (s k) = 1) → (∀ p, (∀ k, k < L → p ≠ s k) → tk p = a_taken p) → bi_PA L s a_pair (bi_pms (nI (bi_bd P lv (lv i) (bi_pv a_text i))) L k0 (fun j => a_text (s j))) pr →
      (∀ j, j < L → im (s j) = nI (lv i + bi_ri (lv i % 2) (bi_fin (lv i % 2) (nI (bi_bd P lv (lv i) (bi_pv a_text i))) (nI (bi_bd P lv (lv i) (bi_af a_text N (s (L - 1))))) L k0 (fun j => a_text (s j)) j))) → (∀ p, (∀ j, j < L → p ≠ s j) → im p = a_implicit p) →
      post (f_cap, f_depth, nI N, nI P, f_lines, f_resolved, f_top, f_overflowIsolates, f_overflowEmbeddings, f_validIsolates, nI L, nI (lv i), nI (lv i % 2), nI (bi_bd P lv (lv i) (bi_pv a_text i)), nI (bi_bd P lv (lv i) (bi_af a_text N (s (L - 1)))), oc, a_text, a_breakAfter, a_partner, a_level, a_type, a_prevKept, a_nextKept, im, pr, a_valid, tk, a_stackLevel, a_stackOverride, a_stackIsolate, sq, kd, mt, oa, wm, a_lineFirst, a_lineSlot, a_lineLv, a_order, a_place)) :
    wpX_resolveSequence post (f_cap, f_depth, nI N, nI P, f_lines, f_resolved, f_top, f_overflowIsolates, f_overflowEmbeddings, f_validIsolates, f_seqLen, f_seqLevel, f_runDir, f_sos, f_eos, f_openCount, a_text, a_breakAfter, a_partner, a_level, a_type, a_prevKept, a_nextKept, a_implicit, a_pair, a_valid, a_taken, a_stackLevel, a_stackOverride, a_stackIsolate, a_seq, a_kind, a_mate, a_openAt, a_wasMark, a_lineFirst, a_lineSlot, a_lineLv, a_order, a_place) (nI i) := by
  have hL := bi_CH_L hc
  have h1L := hc.1
  have hL32 : L ≤ 32 := by omega
  have hw2 : lv i % 2 < 2 := Nat.mod_lt _ (by omega)
  have hs := bi_n01 (bi_bd_lt P lv (lv i) (bi_pv a_text i))
  have htx : ∀ j, j < L → ¬ a_text (s j) < 0 := fun j hj => ht _ (hc.2.2.1 j hj).1
  unfold wpX_resolveSequence
  refine bx_coll hN hP hc hp hV hl hn hk (fun tk sq kd wm mt t1 t2 t3 => ?_)
  have hq : bi_SQ L s sq := ⟨fun k hk => ⟨(t3 k hk).1, by have := (hc.2.2.1 k hk).1; omega⟩, fun a b ha hb e => bi_CH_inj hc ha hb e⟩
  have hwm : ∀ j, j < L → wm j = if k0 j = 8 then 1 else 0 := fun j hj => by rw [(t3 j hj).2.2.1, h0 j hj]
  refine bx_marks (k := k0) hL32 (fun j hj => by rw [(t3 j hj).2.1, h0 j hj]) (fun kd1 k1 => ?_)
  refine bx_arab hL32 k1 (fun kd2 k2 => ?_)
  refine bx_sep hL32 h1L k2 (fun kd3 k3 => ?_)
  refine bx_term hL32 k3 (fun kd4 k4 => ?_)
  refine bx_num hL32 k4 (fun kd5 k5 => ?_)
  refine bx_pb (s := s) hL32 hq k5 htx (fun j hj => (t3 j hj).2.2.2) (fun oc oa mt' pr m1 m2 => ?_)
  refine bx_rp (k0 := k0) (bt := fun j => a_text (s j)) hL32 hw2 hs hwm m1 (fun j m hm => (bi_pms_lt hm).2.1) k5 (fun kd6 k6 => ?_)
  refine bx_nn (w := lv i % 2) hL32 k6 (fun kd7 k7 => ?_)
  refine bx_sl (s := s) hL32 hq hw2 k7 (fun im i1 i2 => ?_)
  exact hC oc tk sq kd7 wm mt' oa pr im t1 t2 m2 i1 i2
end
section
variable {g_cap g_depth g_len g_para g_count g_e g_way g_sos g_eos g_done : Int32} {b_text b_cut b_pair b_res b_level b_over b_type b_first b_seq b_open b_stLevel b_stOver b_stIso : Nat → Int32}
theorem by_seq {post : SY → Prop} {N P i L : Nat} {lv s : Nat → Nat} {V k0 : Nat → Int32} (hN : N ≤ 32) (hP : P < 2 ^ 31) (hc : bi_CH b_text N lv V i L s) (hV : bi_VO b_text N N V b_over)
    (hl : ∀ k, k < N → ¬ bi_R (b_text k) → b_level k = nI (lv k) ∧ lv k < 2 ^ 30) (ht : ∀ k, k < N → ¬ b_text k < 0) (h0 : ∀ j, j < L → b_type (s j) = k0 j) (h1 : ∀ j, j < L → b_first (s j) = k0 j) (hk0 : ∀ j, j < L → bi_k0 (k0 j)) (hpn : ∀ j, j < L → b_pair (s j) = -1)
    (hC : ∀ sq op ty pr rs : Nat → Int32, (∀ p, (∀ k, k < L → p ≠ s k) → ty p = b_type p) → bi_PA L s b_pair (bi_pms (nI (bi_bd P lv (lv i) (bi_pv b_text i))) L k0 (fun j => b_text (s j))) pr →
      (∀ j, j < L → rs (s j) = nI (lv i + bi_ri (lv i % 2) (bi_fin (lv i % 2) (nI (bi_bd P lv (lv i) (bi_pv b_text i))) (nI (bi_bd P lv (lv i) (bi_af b_text N (s (L - 1))))) L k0 (fun j => b_text (s j)) j))) → (∀ p, (∀ j, j < L → p ≠ s j) → rs p = b_res p) →
      post (g_cap, g_depth, nI N, nI P, nI L, nI (lv i), nI (lv i % 2), nI (bi_bd P lv (lv i) (bi_pv b_text i)), nI (bi_bd P lv (lv i) (bi_af b_text N (s (L - 1)))), g_done, b_text, b_cut, pr, rs, b_level, b_over, ty, b_first, sq, op, b_stLevel, b_stOver, b_stIso)) :
    wpY_sequence post (g_cap, g_depth, nI N, nI P, g_count, g_e, g_way, g_sos, g_eos, g_done, b_text, b_cut, b_pair, b_res, b_level, b_over, b_type, b_first, b_seq, b_open, b_stLevel, b_stOver, b_stIso) (nI i) := by
  have hL := bi_CH_L hc
  have h1L := hc.1
  have hL32 : L ≤ 32 := by omega
  have hw2 : lv i % 2 < 2 := Nat.mod_lt _ (by omega)
  have hs := bi_n01 (bi_bd_lt P lv (lv i) (bi_pv b_text i))
  have he := bi_n01 (bi_bd_lt P lv (lv i) (bi_af b_text N (s (L - 1))))
  have htx : ∀ j, j < L → ¬ b_text (s j) < 0 := fun j hj => ht _ (hc.2.2.1 j hj).1
  have hli : lv i < 2 ^ 30 := by
    have q := hc.2.2.1 0 (by omega)
    rw [hc.2.1] at q
    exact (hl i q.1 q.2).2
  refine by_head (lv := lv) (V := V) hN hP hc hV (fun k a b => ⟨(hl k a b).1, by have := (hl k a b).2; omega⟩) (fun sq op q => ⟨8, ?_⟩)
  have hq : bi_SQ L s sq := ⟨fun k hk => ⟨(q k hk).1, by have := (hc.2.2.1 k hk).1; omega⟩, fun a b ha hb e => bi_CH_inj hc ha hb e⟩
  refine by_rules (k := k0) hL32 hs he hk0 hq h0 (fun ty a1 a2 => ?_)
  refine br_t (by decide) (by_pb (s := s) hL32 hq a1 htx (fun j hj => (q j hj).2) (fun op' pr b1 => Exists.intro 33 ?_))
  have hW := bi_W_r (L := L) hs hk0
  refine by_211_loop (s := s) (k0 := k0) (kd := bi_W (nI (bi_bd P lv (lv i) (bi_pv b_text i))) L k0) (ty0 := b_type) (pm := bi_pms (nI (bi_bd P lv (lv i) (bi_pv b_text i))) L k0 (fun j => b_text (s j))) hL32 hw2 hs hq h1 htx (fun j hj hm => ?_) (fun j m hj hm => ?_) (fun j m hm => ⟨(bi_pms_lt hm).2.1, (bi_pms_lt hm).2.2.2⟩) (fun ty2 c1 c2 => ?_) 33 0 ty (by omega) (by omega) a1 a2
  · exact (b1.1 j hj).trans ((bi_pr_n hm).trans (hpn j hj))
  · exact (b1.1 j hj).trans (bi_pr_s hm)
  · refine by_nn (s := s) (w := lv i % 2) (ty0 := b_type) hL32 hw2 hs he hq (bi_rp_r hw2 hs hW L) c1 c2 (fun ty3 d1 d2 => Exists.intro 33 ?_)
    exact by_272_loop (s := s) (w := lv i % 2) (e := lv i) hL32 hq rfl hli d1 (fun rs e1 e2 => hC sq op' ty3 pr rs d2 b1 e1 e2) 33 0 b_res (by omega) (by omega) (fun j hj => by omega) (fun p _ => rfl)
end
end
section
/-! all sequences: the component's loop, the reference's carried along -/
def bi_TK (T : Nat → Int32) (N : Nat) (lv : Nat → Nat) (V : Nat → Int32) (i : Nat) (tk : Nat → Int32) : Prop :=
  (∀ p, p < N → tk p = 0 ∨ tk p = 1) ∧ (∀ p, p < N → bi_R (T p) → tk p = 1) ∧ (∀ p, p < i → p < N → tk p = 1) ∧
  (∀ p q, p < N → ¬ bi_R (T p) → tk p = 1 → bi_sc T N lv V p = some q → tk q = 1) ∧ (∀ p, i ≤ p → p < N → ¬ bi_R (T p) → tk p = 1 → ∃ j, j < p ∧ ¬ bi_R (T j) ∧ tk j = 1 ∧ bi_sc T N lv V j = some p)
theorem bi_TK_0 {T : Nat → Int32} {N : Nat} {lv : Nat → Nat} {V tk : Nat → Int32} (h : ∀ p, p < N → tk p = bi_bR (T p)) : bi_TK T N lv V 0 tk := by
  have n0 : ∀ p, p < N → ¬ bi_R (T p) → ¬ tk p = 1 := fun p hp r z => by
    rw [h p hp, bi_bR0 r] at z; exact absurd z (by decide)
  refine ⟨fun p hp => ?_, fun p hp r => ?_, fun p h1 => by omega, fun p q hp r z => absurd z (n0 p hp r), fun p _ hp r z => absurd z (n0 p hp r)⟩
  · rw [h p hp]
    by_cases r : bi_R (T p)
    · exact Or.inr (bi_bR1 r)
    · exact Or.inl (bi_bR0 r)
  · rw [h p hp]; exact bi_bR1 r
theorem bi_TK_skip {T : Nat → Int32} {N i : Nat} {lv : Nat → Nat} {V tk : Nat → Int32} (h : bi_TK T N lv V i tk) (hi : tk i = 1) : bi_TK T N lv V (i + 1) tk := by
  obtain ⟨h1, h2, h3, h4, h5⟩ := h
  refine ⟨h1, h2, fun p hp hn => ?_, h4, fun p hp => h5 p (by omega)⟩
  by_cases e : p = i
  · rw [e]; exact hi
  · exact h3 p (by omega) hn
theorem bi_TK_free {T pt : Nat → Int32} {N i L : Nat} {lv s : Nat → Nat} {V tk : Nat → Int32} (hp : bi_PM T N pt) (hV : ∀ k, k < N → ¬ V k = 0 → V k = 1 ∧ bi_I (T k)) (h3 : bi_E3 T N lv V) (h : bi_TK T N lv V i tk) (hi : tk i = 0) (hc : bi_CH T N lv V i L s) : ∀ j, j < L → tk (s j) = 0 := by
  intro j
  induction j with
  | zero => intro _; rw [hc.2.1]; exact hi
  | succ j ih =>
    intro hj
    obtain ⟨a1, a2⟩ := hc.2.2.1 (j + 1) hj
    obtain ⟨b1, b2⟩ := hc.2.2.1 j (by omega)
    rcases h.1 _ a1 with z | z
    · exact z
    · obtain ⟨q, q1, q2, q3, q4⟩ := h.2.2.2.2 (s (j + 1)) (by have := bi_CH_ge hc hj; omega) a1 a2 z
      have e := bi_sc_inj hp hV h3 q2 b2 q4 (hc.2.2.2.1 j hj)
      rw [e, ih (by omega)] at q3
      exact absurd q3 (by decide)
theorem bi_TK_step {T : Nat → Int32} {N i L : Nat} {lv s : Nat → Nat} {V tk tk' : Nat → Int32} (h : bi_TK T N lv V i tk) (hc : bi_CH T N lv V i L s) (t1 : ∀ k, k < L → tk' (s k) = 1) (t2 : ∀ p, (∀ k, k < L → p ≠ s k) → tk' p = tk p) : bi_TK T N lv V (i + 1) tk' := by
  obtain ⟨h1, h2, h3, h4, h5⟩ := h
  have hL1 := hc.1
  have up : ∀ p, tk p = 1 → tk' p = 1 := by
    intro p hp
    by_cases z : ∃ k, k < L ∧ p = s k
    · obtain ⟨k, k1, k2⟩ := z
      rw [k2]; exact t1 k k1
    · rw [t2 p (fun k hk e => z ⟨k, hk, e⟩)]; exact hp
  refine ⟨fun p hp => ?_, fun p hp r => up p (h2 p hp r), fun p hp hn => ?_, fun p q hp r z hs => ?_, fun p hp hn r z => ?_⟩
  · by_cases z : ∃ k, k < L ∧ p = s k
    · obtain ⟨k, k1, k2⟩ := z
      rw [k2]; exact Or.inr (t1 k k1)
    · rw [t2 p (fun k hk e => z ⟨k, hk, e⟩)]; exact h1 p hp
  · by_cases e : p = i
    · rw [e, ← hc.2.1]; exact t1 0 (by omega)
    · exact up p (h3 p (by omega) hn)
  · by_cases w : ∃ k, k < L ∧ p = s k
    · obtain ⟨k, k1, k2⟩ := w
      subst k2
      rw [bi_mb_sc hc k1] at hs
      unfold bi_mb at hs
      by_cases v : k + 1 < L
      · rw [if_pos v] at hs
        cases hs
        exact t1 _ v
      · rw [if_neg v] at hs; cases hs
    · rw [t2 p (fun k hk e => w ⟨k, hk, e⟩)] at z
      exact up q (h4 p q hp r z hs)
  · by_cases w : ∃ k, k < L ∧ p = s k
    · obtain ⟨k, k1, k2⟩ := w
      subst k2
      cases k with
      | zero => rw [hc.2.1] at hp; omega
      | succ k =>
        exact ⟨s k, bi_CH_lt hc (by omega) k1, (hc.2.2.1 k (by omega)).2, t1 k (by omega), hc.2.2.2.1 k k1⟩
    · rw [t2 p (fun k hk e => w ⟨k, hk, e⟩)] at z
      obtain ⟨j, j1, j2, j3, j4⟩ := h5 p (by omega) hn r z
      exact ⟨j, j1, j2, up j j3, j4⟩
def bi_IM (T : Nat → Int32) (N D : Nat) (tk im : Nat → Int32) : Prop := ∀ p, p < N → ¬ bi_R (T p) → tk p = 1 → ∃ e, im p = nI e ∧ e ≤ D + 2
def bi_PR (c px py : Int32) : Prop := (py = -1 ∧ px = bi_p0 c) ∨ (∃ q : Nat, q < 32 ∧ px = nI q ∧ py = nI q ∧ ¬ c ≤ 22)
def bi_QS (T : Nat → Int32) (N D : Nat) (FY tk prX im prY rs ty : Nat → Int32) : Prop :=
  (∀ p, p < N → ¬ bi_R (T p) → tk p = 0 → ty p = FY p ∧ prY p = -1) ∧ (∀ p, p < N → ¬ bi_R (T p) → tk p = 1 → ∃ e, im p = nI e ∧ rs p = nI e ∧ e ≤ D + 2) ∧ (∀ p, p < N → bi_PR (T p) (prX p) (prY p)) ∧ (∀ p, p < N → bi_R (T p) → im p = -1)
theorem bi_QS_step {T : Nat → Int32} {N D i L : Nat} {lv s : Nat → Nat} {V FY tk prX im prY rs ty tk' prX' im' prY' rs' ty' : Nat → Int32} {pm : Nat → Option Nat} {lf : Nat → Nat} (hN : N ≤ 32) (hc : bi_CH T N lv V i L s) (htk : ∀ p, p < N → tk p = 0 ∨ tk p = 1) (h : bi_QS T N D FY tk prX im prY rs ty)
    (t1 : ∀ k, k < L → tk' (s k) = 1) (t2 : ∀ p, (∀ k, k < L → p ≠ s k) → tk' p = tk p) (px : bi_PA L s prX pm prX') (py : bi_PA L s prY pm prY') (hpm : ∀ j m, pm j = some m → m < L ∧ ¬ T (s j) ≤ 22)
    (i1 : ∀ j, j < L → im' (s j) = nI (lf j)) (i2 : ∀ p, (∀ j, j < L → p ≠ s j) → im' p = im p) (r1 : ∀ j, j < L → rs' (s j) = nI (lf j)) (r2 : ∀ p, (∀ j, j < L → p ≠ s j) → rs' p = rs p) (y2 : ∀ p, (∀ j, j < L → p ≠ s j) → ty' p = ty p) (hlf : ∀ j, j < L → lf j ≤ D + 2) : bi_QS T N D FY tk' prX' im' prY' rs' ty' := by
  obtain ⟨h1, h2, h3, h4⟩ := h
  refine ⟨fun p hp r z => ?_, fun p hp r z => ?_, fun p hp => ?_, fun p hp r => ?_⟩
  · by_cases w : ∃ k, k < L ∧ p = s k
    · obtain ⟨k, k1, k2⟩ := w
      rw [k2, t1 k k1] at z; exact absurd z (by decide)
    · have w' : ∀ k, k < L → p ≠ s k := fun k hk e => w ⟨k, hk, e⟩
      rw [t2 p w'] at z
      rw [y2 p w', py.2 p w']
      exact h1 p hp r z
  · by_cases w : ∃ k, k < L ∧ p = s k
    · obtain ⟨k, k1, k2⟩ := w
      rw [k2, i1 k k1, r1 k k1]
      exact ⟨lf k, rfl, rfl, hlf k k1⟩
    · have w' : ∀ k, k < L → p ≠ s k := fun k hk e => w ⟨k, hk, e⟩
      rw [t2 p w'] at z
      rw [i2 p w', r2 p w']
      exact h2 p hp r z
  · by_cases w : ∃ k, k < L ∧ p = s k
    · obtain ⟨k, k1, k2⟩ := w
      rw [k2, px.1 k k1, py.1 k k1]
      cases hm : pm k with
      | none => rw [bi_pr_n hm, bi_pr_n hm, ← k2]; exact h3 p hp
      | some m =>
        obtain ⟨m1, m2⟩ := hpm k m hm
        rw [bi_pr_s hm, bi_pr_s hm]
        exact Or.inr ⟨s m, by have := (hc.2.2.1 m m1).1; omega, rfl, rfl, m2⟩
    · have w' : ∀ k, k < L → p ≠ s k := fun k hk e => w ⟨k, hk, e⟩
      rw [px.2 p w', py.2 p w']; exact h3 p hp
  · have w' : ∀ k, k < L → p ≠ s k := fun k hk e => by
      subst e
      exact (hc.2.2.1 k hk).2 r
    rw [i2 p w']; exact h4 p hp r
section
variable {f_cap f_depth f_size f_paragraph f_lines f_resolved f_top f_overflowIsolates f_overflowEmbeddings f_validIsolates f_seqLen f_seqLevel f_runDir f_sos f_eos f_openCount : Int32} {a_text a_breakAfter a_partner a_level a_type a_prevKept a_nextKept a_implicit a_pair a_valid a_taken a_stackLevel a_stackOverride a_stackIsolate a_seq a_kind a_mate a_openAt a_wasMark a_lineFirst a_lineSlot a_lineLv a_order a_place : Nat → Int32}
variable {g_cap g_depth g_len g_para g_count g_e g_way g_sos g_eos g_done : Int32} {b_text b_cut b_pair b_res b_level b_over b_type b_first b_seq b_open b_stLevel b_stOver b_stIso : Nat → Int32}
variable {T pt V LX TX LY OY FY : Nat → Int32} {N D P : Nat} {lv : Nat → Nat}
theorem bi_rs_loop {G : (Int32 → SY → Prop) → Prop} {post : SX → Prop} (hN : N ≤ 32) (hD : D ≤ 12) (hP : P < 2 ^ 31) (hT : ∀ k, k < N → ¬ T k < 0) (hp : bi_PM T N pt) (hV : bi_VO T N N V OY) (h3 : bi_E3 T N lv V)
    (hl : ∀ k, k < N → ¬ bi_R (T k) → LX k = nI (lv k) ∧ LY k = nI (lv k) ∧ lv k ≤ D ∧ TX k = FY k ∧ bi_k0 (FY k)) (hn : ∀ k, k < N → ¬ bi_R (T k) → a_nextKept k = bi_o (bi_nt T N (k + 1))) (hk : ∀ k, k < N → a_prevKept k = bi_o (bi_pv T k))
    (hC : ∀ (sl sv rd so eo oc : Int32) (tk sq kd wm mt oa pr im : Nat → Int32), bi_TK T N lv V N tk → bi_IM T N D tk im →
      (∀ postY : Int32 → SY → Prop, (∀ (ct ee wy so eo : Int32) (sq op ty prY rs : Nat → Int32), bi_QS T N D FY tk pr im prY rs ty → postY (nI P) (g_cap, nI D, nI N, nI P, ct, ee, wy, so, eo, g_done, T, b_cut, prY, rs, LY, OY, ty, FY, sq, op, b_stLevel, b_stOver, b_stIso)) → G postY) →
      post (f_cap, nI D, nI N, nI P, f_lines, f_resolved, f_top, f_overflowIsolates, f_overflowEmbeddings, f_validIsolates, sl, sv, rd, so, eo, oc, T, a_breakAfter, pt, LX, TX, a_prevKept, a_nextKept, im, pr, V, tk, a_stackLevel, a_stackOverride, a_stackIsolate, sq, kd, mt, oa, wm, a_lineFirst, a_lineSlot, a_lineLv, a_order, a_place)) :
    ∀ (d i : Nat) (sl sv rd so eo oc : Int32) (tk sq kd wm mt oa pr im : Nat → Int32), N - i = d → i ≤ N → bi_TK T N lv V i tk → bi_IM T N D tk im →
      (∀ (postY : Int32 → SY → Prop) (m : Nat), d < m → (∀ (ct ee wy so eo : Int32) (sq op ty prY rs : Nat → Int32), bi_QS T N D FY tk pr im prY rs ty → wY_resolve_55 postY m (nI i) g_cap (nI D) (nI N) (nI P) ct ee wy so eo g_done T b_cut prY rs LY OY ty FY sq op b_stLevel b_stOver b_stIso) → G postY) →
      wX_resolveSequences_2 post (d + 1) (nI i) f_cap (nI D) (nI N) (nI P) f_lines f_resolved f_top f_overflowIsolates f_overflowEmbeddings f_validIsolates sl sv rd so eo oc T a_breakAfter pt LX TX a_prevKept a_nextKept im pr V tk a_stackLevel a_stackOverride a_stackIsolate sq kd mt oa wm a_lineFirst a_lineSlot a_lineLv a_order a_place := by
  have hV1 : ∀ k, k < N → ¬ V k = 0 → V k = 1 ∧ bi_I (T k) := by
    intro k hk z
    rcases hV.1 k hk with ⟨_, v2, v3⟩ | ⟨_, _, v3⟩
    · by_cases c : bi_I (T k)
      · exact ⟨v2 c, c⟩
      · exact absurd (v3 c) z
    · exact absurd v3 z
  intro d
  induction d with
  | zero =>
    intro i sl sv rd so eo oc tk sq kd wm mt oa pr im hd hi tkh imh Y
    have e : i = N := by omega
    subst e
    refine br_t (nI_le (Nat.le_refl _) (by omega)) (hC _ _ _ _ _ _ _ _ _ _ _ _ _ _ tkh imh (fun postY hy => Y postY 1 (by omega) (fun ct ee wy so' eo' sq' op ty prY rs q => ?_)))
    exact br_t (nI_le (Nat.le_refl _) (by omega)) (hy ct ee wy so' eo' sq' op ty prY rs q)
  | succ d ih =>
    intro i sl sv rd so eo oc tk sq kd wm mt oa pr im hd hi tkh imh Y
    have hiN : i < N := by omega
    refine br_f (nI_ge hiN (by omega)) (And.intro (vp_in_nI (by omega) (by omega)) ?_)
    rw [nI_clamp (n := i) (by omega)]
    have hlY : ∀ k, k < N → ¬ bi_R (T k) → LY k = nI (lv k) ∧ lv k < 2 ^ 31 := fun k a b => ⟨(hl k a b).2.1, by have := (hl k a b).2.2.1; omega⟩
    refine br_c (fun t0 => ?_) (fun t0 => ?_)
    · have hr : ¬ bi_R (T i) := fun r => by rw [tkh.2.1 i hiN r] at t0; exact absurd t0 (by decide)
      obtain ⟨L, s, hc⟩ := bi_CH_ex (lv := lv) (V := V) (N - i) i (Nat.le_refl _) hiN hr
      have free := bi_TK_free hp hV1 h3 tkh t0 hc
      have hli := (hl i hiN hr).2.2.1
      refine bx_seq (k0 := fun j => FY (s j)) (lv := lv) hN hP hc hp hV1 (fun k a b => ⟨(hl k a b).1, by have := (hl k a b).2.2.1; omega⟩) hn (hk i hiN) hT (fun j hj => (hl _ (hc.2.2.1 j hj).1 (hc.2.2.1 j hj).2).2.2.2.1) (fun oc' tk' sq' kd' wm' mt' oa' pr' im' t1 t2 px i1 i2 => nm_r (nI_1 i) (ih (i + 1) _ _ _ _ _ _ _ _ _ _ _ _ _ _ (by omega) (by omega) (bi_TK_step tkh hc t1 t2) ?_ (fun postY m hm hy => ?_)))
      · intro p hp r z
        by_cases w : ∃ k, k < L ∧ p = s k
        · obtain ⟨k, k1, k2⟩ := w
          rw [k2, i1 k k1]
          exact ⟨_, rfl, by have := bi_ri_le (lv i % 2) (bi_fin (lv i % 2) (nI (bi_bd P lv (lv i) (bi_pv T i))) (nI (bi_bd P lv (lv i) (bi_af T N (s (L - 1))))) L (fun j => FY (s j)) (fun j => T (s j)) k); omega⟩
        · have w' : ∀ k, k < L → p ≠ s k := fun k hk e => w ⟨k, hk, e⟩
          rw [t2 p w'] at z
          rw [i2 p w']
          exact imh p hp r z
      refine Y postY (m + 1) (by omega) (fun ct ee wy so2 eo2 sq2 op ty prY rs q => ?_)
      refine br_f (nI_ge hiN (by omega)) (by_begins (lv := lv) (V := V) hN hiN hV hlY (fun _ _ => br_f (by decide) ?_) (fun z => absurd z (fun z => ?_)))
      · refine by_seq (k0 := fun j => FY (s j)) (lv := lv) (V := V) hN hP hc hV (fun k a b => ⟨(hl k a b).2.1, by have := (hl k a b).2.2.1; omega⟩) hT (fun j hj => (q.1 _ (hc.2.2.1 j hj).1 (hc.2.2.1 j hj).2 (free j hj)).1) (fun j hj => rfl) (fun j hj => (hl _ (hc.2.2.1 j hj).1 (hc.2.2.1 j hj).2).2.2.2.2) (fun j hj => (q.1 _ (hc.2.2.1 j hj).1 (hc.2.2.1 j hj).2 (free j hj)).2) (fun sq3 op3 ty3 pr3 rs3 y2 py r1 r2 => nm_r (nI_1 i) (hy _ _ _ _ _ _ _ _ _ _ ?_))
        exact bi_QS_step hN hc tkh.1 q t1 t2 px py (fun j m hm => ⟨(bi_pms_lt hm).2.1, (bi_pms_lt hm).2.2.1⟩) i1 i2 r1 r2 y2 (fun j hj => by have := bi_ri_le (lv i % 2) (bi_fin (lv i % 2) (nI (bi_bd P lv (lv i) (bi_pv T i))) (nI (bi_bd P lv (lv i) (bi_af T N (s (L - 1))))) L (fun j => FY (s j)) (fun j => T (s j)) j); omega)
      · rcases z with z | ⟨j, j1, j2, j3⟩
        · exact hr z
        · have := tkh.2.2.2.1 j i (by omega) j2 (tkh.2.2.1 j j1 (by omega)) j3
          rw [this] at t0; exact absurd t0 (by decide)
    · have t1 : tk i = 1 := (tkh.1 i hiN).resolve_left t0
      refine nm_r (nI_1 i) (ih (i + 1) _ _ _ _ _ _ _ _ _ _ _ _ _ _ (by omega) (by omega) (bi_TK_skip tkh t1) imh (fun postY m hm hy => ?_))
      refine Y postY (m + 1) (by omega) (fun ct ee wy so2 eo2 sq2 op ty prY rs q => ?_)
      refine br_f (nI_ge hiN (by omega)) (by_begins (lv := lv) (V := V) hN hiN hV hlY (fun r1 r2 => absurd r1 (fun r1 => ?_)) (fun z => br_t rfl (nm_r (nI_1 i) (hy _ _ _ _ _ _ _ _ _ _ q))))
      obtain ⟨j, j1, j2, j3, j4⟩ := tkh.2.2.2.2 i (Nat.le_refl _) hiN r1 t1
      exact r2 j j1 j2 j4
end
end
section
/-! the relation -/
def bi_Fx (C D N : Nat) (r : Int32) (T K : Nat → Int32) : Prop := C ≤ 32 ∧ 2 ≤ D ∧ D ≤ 12 ∧ N ≤ C ∧ (∀ i, i < N → ¬ T i < 0) ∧ (∀ k, k + 1 < N → ¬ T k = 10) ∧ (∀ j, K j = 0 ∨ (K j = 1 ∧ j + 1 < N)) ∧ (r = 0 ∨ r = 1)
def bi_Rc (N D P : Nat) (T pt va pr im prY rs ov : Nat → Int32) : Prop := 0 < N ∧ P ≤ 1 ∧ bi_PM T N pt ∧ bi_VO T N N va ov ∧ (∀ p, p < N → bi_PR (T p) (pr p) (prY p)) ∧ (∀ p, p < N → bi_R (T p) → im p = -1) ∧ (∀ p, p < N → ¬ bi_R (T p) → ∃ e, im p = nI e ∧ rs p = nI e ∧ e ≤ D + 2)
def bi_Rl (N D P : Nat) (T K im : Nat → Int32) (li : Int32) (lf ls ll od pl : Nat → Int32) : Prop := ∃ lv : Nat → Nat, li = nI (bi_ln K N + 1) ∧ (∀ l, l ≤ bi_ln K N → lf l = nI (bi_fs K N l)) ∧ (∀ l, l ≤ bi_ln K N + 1 → ls l = nI (bi_rc T (bi_fs K N l))) ∧ (∀ i, i < N → ll i = bi_lv T K N (nI P) im i) ∧ (∀ i, i < N → ¬ bi_R (T i) → bi_lv T K N (nI P) im i = nI (lv i) ∧ lv i ≤ D + 2) ∧
  (∀ l, l ≤ bi_ln K N → bi_Blk T N lv (bi_rc T (bi_fs K N l)) (bi_rc T (bi_fs K N (l + 1))) od pl) ∧ (∀ i, i < N → bi_R (T i) → pl i = -1)
def bi_Rs (N D : Nat) (T K : Nat → Int32) (pa py li : Int32) (pt va pr im lf ls ll od pl prY rs ov : Nat → Int32) : Prop := ∃ P, pa = nI P ∧ py = nI P ∧ bi_Rc N D P T pt va pr im prY rs ov ∧ bi_Rl N D P T K im li lf ls ll od pl
/-- cap, depth, text, breaks and the directional stacks are the same; once resolved, the component's arrays hold what the reference reckons -/
def i_Rel (_ : Nat) (u : SX) (v : SY) : Prop := match u, v with
  | (f_cap, f_depth, f_size, f_paragraph, f_lines, f_resolved, f_top, f_overflowIsolates, f_overflowEmbeddings, f_validIsolates, f_seqLen, f_seqLevel, f_runDir, f_sos, f_eos, f_openCount, a_text, a_breakAfter, a_partner, a_level, a_type, a_prevKept, a_nextKept, a_implicit, a_pair, a_valid, a_taken, a_stackLevel, a_stackOverride, a_stackIsolate, a_seq, a_kind, a_mate, a_openAt, a_wasMark, a_lineFirst, a_lineSlot, a_lineLv, a_order, a_place), (g_cap, g_depth, g_len, g_para, g_count, g_e, g_way, g_sos, g_eos, g_done, b_text, b_cut, b_pair, b_res, b_level, b_over, b_type, b_first, b_seq, b_open, b_stLevel, b_stOver, b_stIso) => ∃ C D N : Nat, f_cap = nI C ∧ g_cap = nI C ∧ f_depth = nI D ∧ g_depth = nI D ∧ f_size = nI N ∧ g_len = nI N ∧ g_done = f_resolved ∧ b_text = a_text ∧ b_cut = a_breakAfter ∧ b_stLevel = a_stackLevel ∧ b_stOver = a_stackOverride ∧ b_stIso = a_stackIsolate ∧ bi_Fx C D N f_resolved a_text a_breakAfter ∧
      (f_resolved = 1 → bi_Rs N D a_text a_breakAfter f_paragraph g_para f_lines a_partner a_valid a_pair a_implicit a_lineFirst a_lineSlot a_lineLv a_order a_place b_pair b_res b_over)
theorem i_up {k : Nat} {u : SX} {v : SY} (h : i_Rel k u v) : i_Rel (k + 3) u v := h
section
variable {f_cap f_depth f_size f_paragraph f_lines f_resolved f_top f_overflowIsolates f_overflowEmbeddings f_validIsolates f_seqLen f_seqLevel f_runDir f_sos f_eos f_openCount : Int32} {a_text a_breakAfter a_partner a_level a_type a_prevKept a_nextKept a_implicit a_pair a_valid a_taken a_stackLevel a_stackOverride a_stackIsolate a_seq a_kind a_mate a_openAt a_wasMark a_lineFirst a_lineSlot a_lineLv a_order a_place : Nat → Int32}
variable {g_cap g_depth g_len g_para g_count g_e g_way g_sos g_eos g_done : Int32} {b_text b_cut b_pair b_res b_level b_over b_type b_first b_seq b_open b_stLevel b_stOver b_stIso : Nat → Int32}
theorem bi_in {k C D N : Nat} (hF : bi_Fx C D N f_resolved a_text a_breakAfter) (hR : f_resolved = 1 → bi_Rs N D a_text a_breakAfter f_paragraph g_para f_lines a_partner a_valid a_pair a_implicit a_lineFirst a_lineSlot a_lineLv a_order a_place b_pair b_res b_over) : i_Rel k (nI C, nI D, nI N, f_paragraph, f_lines, f_resolved, f_top, f_overflowIsolates, f_overflowEmbeddings, f_validIsolates, f_seqLen, f_seqLevel, f_runDir, f_sos, f_eos, f_openCount, a_text, a_breakAfter, a_partner, a_level, a_type, a_prevKept, a_nextKept, a_implicit, a_pair, a_valid, a_taken, a_stackLevel, a_stackOverride, a_stackIsolate, a_seq, a_kind, a_mate, a_openAt, a_wasMark, a_lineFirst, a_lineSlot, a_lineLv, a_order, a_place) (nI C, nI D, nI N, g_para, g_count, g_e, g_way, g_sos, g_eos, f_resolved, a_text, a_breakAfter, b_pair, b_res, b_level, b_over, b_type, b_first, b_seq, b_open, a_stackLevel, a_stackOverride, a_stackIsolate) := by
  unfold i_Rel
  exact ⟨C, D, N, rfl, rfl, rfl, rfl, rfl, rfl, rfl, rfl, rfl, rfl, rfl, rfl, hF, hR⟩
end
theorem bi_el {Q : SX → SY → Prop} (h : ∀ (C D N : Nat) (f_paragraph f_lines f_resolved f_top f_overflowIsolates f_overflowEmbeddings f_validIsolates f_seqLen f_seqLevel f_runDir f_sos f_eos f_openCount : Int32) (a_text a_breakAfter a_partner a_level a_type a_prevKept a_nextKept a_implicit a_pair a_valid a_taken a_stackLevel a_stackOverride a_stackIsolate a_seq a_kind a_mate a_openAt a_wasMark a_lineFirst a_lineSlot a_lineLv a_order a_place : Nat → Int32) (g_para g_count g_e g_way g_sos g_eos : Int32) (b_pair b_res b_level b_over b_type b_first b_seq b_open : Nat → Int32),
      bi_Fx C D N f_resolved a_text a_breakAfter → (f_resolved = 1 → bi_Rs N D a_text a_breakAfter f_paragraph g_para f_lines a_partner a_valid a_pair a_implicit a_lineFirst a_lineSlot a_lineLv a_order a_place b_pair b_res b_over) → Q (nI C, nI D, nI N, f_paragraph, f_lines, f_resolved, f_top, f_overflowIsolates, f_overflowEmbeddings, f_validIsolates, f_seqLen, f_seqLevel, f_runDir, f_sos, f_eos, f_openCount, a_text, a_breakAfter, a_partner, a_level, a_type, a_prevKept, a_nextKept, a_implicit, a_pair, a_valid, a_taken, a_stackLevel, a_stackOverride, a_stackIsolate, a_seq, a_kind, a_mate, a_openAt, a_wasMark, a_lineFirst, a_lineSlot, a_lineLv, a_order, a_place) (nI C, nI D, nI N, g_para, g_count, g_e, g_way, g_sos, g_eos, f_resolved, a_text, a_breakAfter, b_pair, b_res, b_level, b_over, b_type, b_first, b_seq, b_open, a_stackLevel, a_stackOverride, a_stackIsolate)) {k : Nat} {u : SX} {v : SY} (I : i_Rel k u v) : Q u v := by
  obtain ⟨f_cap, f_depth, f_size, f_paragraph, f_lines, f_resolved, f_top, f_overflowIsolates, f_overflowEmbeddings, f_validIsolates, f_seqLen, f_seqLevel, f_runDir, f_sos, f_eos, f_openCount, a_text, a_breakAfter, a_partner, a_level, a_type, a_prevKept, a_nextKept, a_implicit, a_pair, a_valid, a_taken, a_stackLevel, a_stackOverride, a_stackIsolate, a_seq, a_kind, a_mate, a_openAt, a_wasMark, a_lineFirst, a_lineSlot, a_lineLv, a_order, a_place⟩ := u
  obtain ⟨g_cap, g_depth, g_len, g_para, g_count, g_e, g_way, g_sos, g_eos, g_done, b_text, b_cut, b_pair, b_res, b_level, b_over, b_type, b_first, b_seq, b_open, b_stLevel, b_stOver, b_stIso⟩ := v
  unfold i_Rel at I
  obtain ⟨C, D, N, e1, e2, e3, e4, e5, e6, e7, e8, e9, e10, e11, e12, hF, hR⟩ := I
  subst e1 e2 e3 e4 e5 e6 e7 e8 e9 e10 e11 e12
  exact h C D N _ _ _ _ _ _ _ _ _ _ _ _ _ _ _ _ _ _ _ _ _ _ _ _ _ _ _ _ _ _ _ _ _ _ _ _ _ _ _ _ _ _ _ _ _ _ _ _ _ _ _ hF hR
section
variable {f_cap f_depth f_size f_paragraph f_lines f_resolved f_top f_overflowIsolates f_overflowEmbeddings f_validIsolates f_seqLen f_seqLevel f_runDir f_sos f_eos f_openCount : Int32} {a_text a_breakAfter a_partner a_level a_type a_prevKept a_nextKept a_implicit a_pair a_valid a_taken a_stackLevel a_stackOverride a_stackIsolate a_seq a_kind a_mate a_openAt a_wasMark a_lineFirst a_lineSlot a_lineLv a_order a_place : Nat → Int32}
theorem bx_lay2 {post : SX → Prop} {C D N P : Nat} {r : Int32} (hF : bi_Fx C D N r a_text a_breakAfter) (h0 : 0 < N) (hP : P ≤ 1) (him : ∀ p, p < N → ¬ bi_R (a_text p) → ∃ e, a_implicit p = nI e ∧ e ≤ D + 2) (hpl : ∀ p, p < N → bi_R (a_text p) → a_place p = -1)
    (hC : ∀ (li : Int32) (lf ls ll od pl : Nat → Int32), li = nI (bi_ln a_breakAfter N + 1) → bi_Rl N D P a_text a_breakAfter a_implicit li lf ls ll od pl → post (f_cap, nI D, nI N, nI P, li, f_resolved, f_top, f_overflowIsolates, f_overflowEmbeddings, f_validIsolates, f_seqLen, f_seqLevel, f_runDir, f_sos, f_eos, f_openCount, a_text, a_breakAfter, a_partner, a_level, a_type, a_prevKept, a_nextKept, a_implicit, a_pair, a_valid, a_taken, a_stackLevel, a_stackOverride, a_stackIsolate, a_seq, a_kind, a_mate, a_openAt, a_wasMark, lf, ls, ll, od, pl)) :
    wpX_layOutLines post (f_cap, nI D, nI N, nI P, f_lines, f_resolved, f_top, f_overflowIsolates, f_overflowEmbeddings, f_validIsolates, f_seqLen, f_seqLevel, f_runDir, f_sos, f_eos, f_openCount, a_text, a_breakAfter, a_partner, a_level, a_type, a_prevKept, a_nextKept, a_implicit, a_pair, a_valid, a_taken, a_stackLevel, a_stackOverride, a_stackIsolate, a_seq, a_kind, a_mate, a_openAt, a_wasMark, a_lineFirst, a_lineSlot, a_lineLv, a_order, a_place) := by
  obtain ⟨c1, c2, c3, c4, c5, c6, c7, c8⟩ := hF
  have hK : a_breakAfter (N - 1) = 0 := by
    rcases c7 (N - 1) with q | q
    · exact q
    · omega
  have hlv : ∀ i, i < N → ¬ bi_R (a_text i) → bi_lv a_text a_breakAfter N (nI P) a_implicit i = nI (if bi_tr a_text a_breakAfter N i = true then P else (a_implicit i).toNatClampNeg) ∧ (if bi_tr a_text a_breakAfter N i = true then P else (a_implicit i).toNatClampNeg) ≤ D + 2 := by
    intro i hi r
    obtain ⟨e, e1, e2⟩ := him i hi r
    unfold bi_lv
    rw [if_neg r]
    by_cases z : bi_tr a_text a_breakAfter N i = true
    · rw [if_pos z, if_pos z]; exact ⟨rfl, by omega⟩
    · rw [if_neg z, if_neg z, e1, nI_clamp (by omega)]; exact ⟨rfl, e2⟩
  refine bx_layout (lv := fun i => if bi_tr a_text a_breakAfter N i = true then P else (a_implicit i).toNatClampNeg) (by omega) h0 c3 hK hlv (fun lf ls ll od pl h1 h2 h3 h4 h5 => hC _ lf ls ll od pl rfl ⟨_, rfl, h1, h2, h3, hlv, h4, fun i hi r => by rw [h5 i hi r]; exact hpl i hi r⟩)
theorem bx_clamp {post : Int32 → Prop} {x lo hi : Int32} (k : post (if lo ≤ x then (if x ≤ hi then x else hi) else lo)) : wpX_clamp post (f_cap, f_depth, f_size, f_paragraph, f_lines, f_resolved, f_top, f_overflowIsolates, f_overflowEmbeddings, f_validIsolates, f_seqLen, f_seqLevel, f_runDir, f_sos, f_eos, f_openCount, a_text, a_breakAfter, a_partner, a_level, a_type, a_prevKept, a_nextKept, a_implicit, a_pair, a_valid, a_taken, a_stackLevel, a_stackOverride, a_stackIsolate, a_seq, a_kind, a_mate, a_openAt, a_wasMark, a_lineFirst, a_lineSlot, a_lineLv, a_order, a_place) x lo hi := by
  refine br_c (fun a => br_c (fun b => ?_) (fun b => ?_)) (fun a => ?_)
  · rw [if_pos a, if_pos b] at k; exact k
  · rw [if_pos a, if_neg b] at k; exact k
  · rw [if_neg a] at k; exact k
end
theorem bi_cm {x lo hi : Int32} {l h : Nat} (hl : lo = nI l) (hh : hi = nI h) (hlh : l ≤ h) (hb : h < 2 ^ 31) : ∃ c, l ≤ c ∧ c ≤ h ∧ (if lo ≤ x then (if x ≤ hi then x else hi) else lo) = nI c := by
  by_cases a : lo ≤ x
  · rw [if_pos a]
    by_cases b : x ≤ hi
    · rw [if_pos b]
      have n0 : ¬ x < 0 := by
        intro z
        have : (0 : Int32) ≤ x := Int32.le_trans (by rw [hl]; exact nI_pos' (by omega)) a
        exact Int32.not_lt.mpr this z
      obtain ⟨c, c1, c2⟩ := nI_of n0
      rw [c2, hl] at a
      rw [c2, hh] at b
      exact ⟨c, (nI_leI (by omega) c1).mp a, (nI_leI c1 hb).mp b, c2⟩
    · rw [if_neg b]; exact ⟨h, hlh, Nat.le_refl _, hh⟩
  · rw [if_neg a]; exact ⟨l, Nat.le_refl _, hlh, hl⟩
theorem i_vc0 (k0 : Int32) (k1 : Int32) : wpX_init (fun u => wpY_init (fun v => i_Rel 2 u v) k0 k1) k0 k1 := by
  obtain ⟨C, c1, c2, c3⟩ := bi_cm (x := k0) (lo := 8) (hi := 32) (l := 8) (h := 32) rfl rfl (by omega) (by omega)
  obtain ⟨D, d1, d2, d3⟩ := bi_cm (x := k1) (lo := 2) (hi := 12) (l := 2) (h := 12) rfl rfl (by omega) (by omega)
  unfold wpX_init
  refine bx_clamp (bx_clamp ?_)
  rw [c3, d3]
  have fin : i_Rel 2 (nI C, nI D, 0, 0, 0, 0, 0, 0, 0, 0, 0, 0, 0, 0, 0, 0, (fun _ => 0), (fun _ => 0), (fun _ => 0), (fun _ => 0), (fun _ => 0), (fun _ => 0), (fun _ => 0), (fun _ => 0), (fun _ => 0), (fun _ => 0), (fun _ => 0), (fun _ => 0), (fun _ => 0), (fun _ => 0), (fun _ => 0), (fun _ => 0), (fun _ => 0), (fun _ => 0), (fun _ => 0), (fun _ => 0), (fun _ => 0), (fun _ => 0), (fun _ => 0), (fun _ => 0)) (nI C, nI D, 0, 0, 0, 0, 0, 0, 0, 0, (fun _ => 0), (fun _ => 0), (fun _ => 0), (fun _ => 0), (fun _ => 0), (fun _ => 0), (fun _ => 0), (fun _ => 0), (fun _ => 0), (fun _ => 0), (fun _ => 0), (fun _ => 0), (fun _ => 0)) :=
    bi_in (C := C) (D := D) (N := 0) ⟨by omega, by omega, by omega, by omega, fun i hi => by omega, fun k hk => by omega, fun j => Or.inl rfl, Or.inl rfl⟩ (fun h => absurd h (by decide))
  have h132 : wY_init_132 (fun v => i_Rel 2 (nI C, nI D, 0, 0, 0, 0, 0, 0, 0, 0, 0, 0, 0, 0, 0, 0, (fun _ => 0), (fun _ => 0), (fun _ => 0), (fun _ => 0), (fun _ => 0), (fun _ => 0), (fun _ => 0), (fun _ => 0), (fun _ => 0), (fun _ => 0), (fun _ => 0), (fun _ => 0), (fun _ => 0), (fun _ => 0), (fun _ => 0), (fun _ => 0), (fun _ => 0), (fun _ => 0), (fun _ => 0), (fun _ => 0), (fun _ => 0), (fun _ => 0), (fun _ => 0), (fun _ => 0)) v) k1 (nI C) 0 0 0 0 0 0 0 0 0 0 (fun _ => 0) (fun _ => 0) (fun _ => 0) (fun _ => 0) (fun _ => 0) (fun _ => 0) (fun _ => 0) (fun _ => 0) (fun _ => 0) (fun _ => 0) (fun _ => 0) (fun _ => 0) (fun _ => 0) := by
    unfold wY_init_132
    refine br_c (fun a => br_c (fun b => ?_) (fun b => ?_)) (fun a => ?_)
    · rw [if_pos a, if_pos b] at d3; rw [d3]; exact fin
    · rw [if_pos a, if_neg b] at d3; rw [← d3] at fin ⊢; exact fin
    · rw [if_neg a] at d3; rw [← d3] at fin ⊢; exact fin
  unfold wpY_init
  refine br_c (fun a => br_c (fun b => ?_) (fun b => ?_)) (fun a => ?_)
  · rw [if_pos a, if_pos b] at c3; rw [← c3] at h132; rw [← c3]; exact h132
  · rw [if_pos a, if_neg b] at c3; rw [← c3] at h132; rw [← c3]; exact h132
  · rw [if_neg a] at c3; rw [← c3] at h132; rw [← c3]; exact h132
end
section
/-! resolve and setBreak -/
section
variable {f_cap f_depth f_size f_paragraph f_lines f_resolved f_top f_overflowIsolates f_overflowEmbeddings f_validIsolates f_seqLen f_seqLevel f_runDir f_sos f_eos f_openCount : Int32} {a_text a_breakAfter a_partner a_level a_type a_prevKept a_nextKept a_implicit a_pair a_valid a_taken a_stackLevel a_stackOverride a_stackIsolate a_seq a_kind a_mate a_openAt a_wasMark a_lineFirst a_lineSlot a_lineLv a_order a_place : Nat → Int32}
variable {g_cap g_depth g_len g_para g_count g_e g_way g_sos g_eos g_done : Int32} {b_text b_cut b_pair b_res b_level b_over b_type b_first b_seq b_open b_stLevel b_stOver b_stIso : Nat → Int32}
theorem bi_res45 {k C D N P : Nat} {W : (Int32 → SY → Prop) → Prop} (hF : bi_Fx C D N f_resolved a_text a_breakAfter) (h0 : 0 < N) (hP : P ≤ 1) (hp : bi_PM a_text N a_partner) (hv : ∀ k, k < N → a_valid k = 0)
    (hW : ∀ Q : Int32 → SY → Prop, wY_resolve_41 Q (nI P) (nI C) (nI D) (nI N) g_para g_count g_e g_way g_sos g_eos f_resolved a_text a_breakAfter b_pair b_res b_level b_over b_type b_first b_seq b_open a_stackLevel a_stackOverride a_stackIsolate → W Q) : wX_resolve_45 (fun r u' => W (fun r' v' => r' = r ∧ i_Rel k u' v')) (nI P) (nI C) (nI D) (nI N) f_paragraph f_lines f_resolved f_top f_overflowIsolates f_overflowEmbeddings f_validIsolates f_seqLen f_seqLevel f_runDir f_sos f_eos f_openCount a_text a_breakAfter a_partner a_level a_type a_prevKept a_nextKept a_implicit a_pair a_valid a_taken a_stackLevel a_stackOverride a_stackIsolate a_seq a_kind a_mate a_openAt a_wasMark a_lineFirst a_lineSlot a_lineLv a_order a_place := by
  obtain ⟨c1, c2, c3, c4, c5, c6, c7, c8⟩ := hF
  have hN : N ≤ 32 := by omega
  obtain ⟨t, oi, oe, vi, sl, lv, SL, SO, SI, LX, TX, VX, LY, TY, FY, OY, PY, E, hx, hy⟩ := bi_ex_all (f_cap := nI C) (f_lines := f_lines) (f_resolved := f_resolved) (f_top := f_top) (f_overflowIsolates := f_overflowIsolates) (f_overflowEmbeddings := f_overflowEmbeddings) (f_validIsolates := f_validIsolates) (f_seqLen := f_seqLen) (f_seqLevel := f_seqLevel) (f_runDir := f_runDir) (f_sos := f_sos) (f_eos := f_eos) (f_openCount := f_openCount) (a_breakAfter := a_breakAfter) (a_level := a_level) (a_type := a_type) (a_prevKept := a_prevKept) (a_nextKept := a_nextKept) (a_implicit := a_implicit) (a_pair := a_pair) (a_valid := a_valid) (a_taken := a_taken) (a_seq := a_seq) (a_kind := a_kind) (a_mate := a_mate) (a_openAt := a_openAt) (a_wasMark := a_wasMark) (a_lineFirst := a_lineFirst) (a_lineSlot := a_lineSlot) (a_lineLv := a_lineLv) (a_order := a_order) (a_place := a_place) (g_cap := nI C) (g_count := g_count) (g_e := g_e) (g_way := g_way) (g_sos := g_sos) (g_eos := g_eos) (g_done := 1) (b_cut := a_breakAfter) (b_pair := b_pair) (b_res := b_res) (b_level := b_level) (b_over := b_over) (b_type := b_type) (b_first := b_first) (b_seq := b_seq) (b_open := b_open) (N := N) (D := D) (P := P) hN c3 (by omega) c6 c5 hp hv a_stackLevel a_stackOverride a_stackIsolate
  obtain ⟨_, _, eP, eV, eQ, eN⟩ := E
  unfold wX_resolve_45
  refine hx _ ?_
  refine bx_link hN (fun tk pr im pl pk nk lk => ?_)
  have tk0 : ∀ p, p < N → ¬ bi_R (a_text p) → ¬ tk p = 1 := fun p hp r z => by
    rw [(lk p hp).1, bi_bR0 r] at z; exact absurd z (by decide)
  refine Exists.intro (N + 1) (bi_rs_loop (G := W) (lv := lv) (D := D) (P := P) (V := VX) (OY := OY) (LY := LY) (FY := FY) (g_cap := nI C) (g_done := 1) (b_cut := a_breakAfter) (b_stLevel := SL) (b_stOver := SO) (b_stIso := SI) hN c3 (by omega) c5 hp eV (bi_NE_E3 eN) (fun k a b => ⟨(eP k a b).1, (eP k a b).2.1, (eP k a b).2.2.1, (eP k a b).2.2.2.1, (eP k a b).2.2.2.2.2⟩) (fun k a b => bi_LK_end lk a b) (fun k a => (lk k a).2.2.2.2.1) (fun sl' sv rd so eo oc tk' sq kd wm mt oa pr' im' tkh imh hG => ?_) N 0 _ _ _ _ _ _ _ _ _ _ _ _ _ _ (by omega) (by omega) (bi_TK_0 (fun p hp => (lk p hp).1)) (fun p hp r z => absurd z (tk0 p hp r)) (fun postY m hm h => ?_))
  · refine bx_lay2 (C := C) (D := D) (P := P) (r := 1) ⟨c1, c2, c3, c4, c5, c6, c7, Or.inr rfl⟩ h0 hP (fun p hp r => imh p hp r (tkh.2.2.1 p hp hp)) (fun p hp r => (lk p hp).2.2.2.1) (fun li lf ls ll od pl' eli hRl => ?_)
    refine hG _ (fun ct ee wy so2 eo2 sq2 op ty prY rs q => And.intro rfl ?_)
    refine bi_in (C := C) (D := D) (N := N) ⟨c1, c2, c3, c4, c5, c6, c7, Or.inr rfl⟩ (fun _ => ⟨P, rfl, rfl, ⟨h0, hP, hp, eV, q.2.2.1, q.2.2.2, fun p hp r => q.2.1 p hp r (tkh.2.2.1 p hp hp)⟩, hRl⟩)
  · refine hW postY ?_
    unfold wY_resolve_41
    refine hy _ (Exists.intro m (h g_count g_e g_way g_sos g_eos b_seq b_open TY PY b_res ⟨fun p hp r _ => ⟨(eP p hp r).2.2.2.2.1, eQ p hp⟩, fun p hp r z => absurd z (tk0 p hp r), fun p hp => Or.inl ⟨eQ p hp, (lk p hp).2.1⟩, fun p hp r => (lk p hp).2.2.1⟩))
end
theorem i_vc_resolve {k : Nat} {u : SX} {v : SY} (I : i_Rel k u v) (hk : k + 3 ≤ 1538) (v1 : Int32) : wpX_resolve (fun r u' => wpY_resolve (fun r' v' => r' = r ∧ i_Rel (k + 3) u' v') v v1) u v1 := by
  refine bi_el (Q := fun u v => wpX_resolve (fun r u' => wpY_resolve (fun r' v' => r' = r ∧ i_Rel (k + 3) u' v') v v1) u v1) ?_ I
  intro C D N f_paragraph f_lines f_resolved f_top f_overflowIsolates f_overflowEmbeddings f_validIsolates f_seqLen f_seqLevel f_runDir f_sos f_eos f_openCount a_text a_breakAfter a_partner a_level a_type a_prevKept a_nextKept a_implicit a_pair a_valid a_taken a_stackLevel a_stackOverride a_stackIsolate a_seq a_kind a_mate a_openAt a_wasMark a_lineFirst a_lineSlot a_lineLv a_order a_place g_para g_count g_e g_way g_sos g_eos b_pair b_res b_level b_over b_type b_first b_seq b_open hF hR
  have hF' := hF
  obtain ⟨c1, c2, c3, c4, c5, c6, c7, c8⟩ := hF
  have hN : N ≤ 32 := by omega
  unfold wpX_resolve
  by_cases a : v1 < 0
  · exact br_t a (br_t a (And.intro rfl (bi_in hF' hR)))
  · refine br_f a ?_
    by_cases b : v1 ≤ 2
    · refine br_t b ?_
      by_cases n0 : N = 0
      · have z : nI N = 0 := (bi_eq0 (by omega)).mpr n0
        exact br_t z (br_f a (br_t b (br_t z (And.intro rfl (bi_in hF' hR)))))
      · have z : ¬ nI N = 0 := fun q => n0 ((bi_eq0 (by omega)).mp q)
        refine br_f z (bx_match hN (fun oc pt oa va hp hv => ?_))
        by_cases d : v1 = 2
        · obtain ⟨o, ho⟩ := bi_AU_ex a_text N 0 N
          have hP : ∃ P, P ≤ 1 ∧ bi_au a_text o = nI P := by
            rcases bi_au01 a_text o with q | q
            · exact ⟨0, by omega, q⟩
            · exact ⟨1, by omega, q⟩
          obtain ⟨P, p1, p2⟩ := hP
          refine br_t d (bx_auto (a := 0) (b := N) hN (by omega) (Nat.le_refl _) hp ho ?_)
          rw [p2]
          refine bi_res45 (k := k + 3) (C := C) (D := D) (N := N) (P := P) (W := fun Q => wpY_resolve Q (nI C, nI D, nI N, g_para, g_count, g_e, g_way, g_sos, g_eos, f_resolved, a_text, a_breakAfter, b_pair, b_res, b_level, b_over, b_type, b_first, b_seq, b_open, a_stackLevel, a_stackOverride, a_stackIsolate) v1) (f_resolved := f_resolved) (g_para := g_para) (g_count := g_count) (g_e := g_e) (g_way := g_way) (g_sos := g_sos) (g_eos := g_eos) (b_pair := b_pair) (b_res := b_res) (b_level := b_level) (b_over := b_over) (b_type := b_type) (b_first := b_first) (b_seq := b_seq) (b_open := b_open) hF' (by omega) p1 hp hv (fun Q h => br_f a (br_t b (br_f z (br_t d (by_auto (a := 0) (b := N) hN (Nat.le_refl _) (by omega) ho ?_)))))
          rw [p2]; exact h
        · have hP : ∃ P, P ≤ 1 ∧ v1 = nI P := by
            obtain ⟨j, j1, j2⟩ := nI_of a
            rw [j2] at b d
            have b' : j ≤ 2 := (nI_leI (b := 2) j1 (by omega)).mp b
            have d' : j ≠ 2 := fun q => d (by rw [q]; rfl)
            exact ⟨j, by omega, j2⟩
          obtain ⟨P, p1, p2⟩ := hP
          refine br_f d ?_
          subst p2
          exact bi_res45 (k := k + 3) (C := C) (D := D) (N := N) (P := P) (W := fun Q => wpY_resolve Q (nI C, nI D, nI N, g_para, g_count, g_e, g_way, g_sos, g_eos, f_resolved, a_text, a_breakAfter, b_pair, b_res, b_level, b_over, b_type, b_first, b_seq, b_open, a_stackLevel, a_stackOverride, a_stackIsolate) (nI P)) (f_resolved := f_resolved) (g_para := g_para) (g_count := g_count) (g_e := g_e) (g_way := g_way) (g_sos := g_sos) (g_eos := g_eos) (b_pair := b_pair) (b_res := b_res) (b_level := b_level) (b_over := b_over) (b_type := b_type) (b_first := b_first) (b_seq := b_seq) (b_open := b_open) hF' (by omega) p1 hp hv (fun Q h => br_f a (br_t b (br_f z (br_f d h))))
    · exact br_f b (br_f a (br_f b (And.intro rfl (bi_in hF' hR))))
theorem i_vc_setBreak {k : Nat} {u : SX} {v : SY} (I : i_Rel k u v) (hk : k + 3 ≤ 1538) (v1 : Int32) (v2 : Int32) : wpX_setBreak (fun r u' => wpY_setBreak (fun r' v' => r' = r ∧ i_Rel (k + 3) u' v') v v1 v2) u v1 v2 := by
  refine bi_el (Q := fun u v => wpX_setBreak (fun r u' => wpY_setBreak (fun r' v' => r' = r ∧ i_Rel (k + 3) u' v') v v1 v2) u v1 v2) ?_ I
  intro C D N f_paragraph f_lines f_resolved f_top f_overflowIsolates f_overflowEmbeddings f_validIsolates f_seqLen f_seqLevel f_runDir f_sos f_eos f_openCount a_text a_breakAfter a_partner a_level a_type a_prevKept a_nextKept a_implicit a_pair a_valid a_taken a_stackLevel a_stackOverride a_stackIsolate a_seq a_kind a_mate a_openAt a_wasMark a_lineFirst a_lineSlot a_lineLv a_order a_place g_para g_count g_e g_way g_sos g_eos b_pair b_res b_level b_over b_type b_first b_seq b_open hF hR
  have hF' := hF
  obtain ⟨c1, c2, c3, c4, c5, c6, c7, c8⟩ := hF
  have hN : N ≤ 32 := by omega
  unfold wpX_setBreak
  by_cases r0 : f_resolved = 0
  · exact br_t r0 (br_t r0 (And.intro rfl (bi_in hF' hR)))
  · have r1 := c8.resolve_left r0
    obtain ⟨P, pa, py, rc, rl⟩ := hR r1
    obtain ⟨k0, k1, k2, k3, k4, k5, k6⟩ := rc
    refine br_f r0 ?_
    by_cases a : v1 < 0
    · exact br_t a (br_f r0 (br_t a (And.intro rfl (bi_in hF' hR))))
    · refine br_f a ?_
      by_cases b : nI N - 1 ≤ v1
      · exact br_t b (br_f r0 (br_f a (br_t b (And.intro rfl (bi_in hF' hR)))))
      · refine br_f b ?_
        by_cases d : v2 < 0
        · exact br_t d (br_f r0 (br_f a (br_f b (br_t d (And.intro rfl (bi_in hF' hR))))))
        · refine br_f d ?_
          by_cases e : v2 ≤ 1
          · refine br_t e ?_
            have hi : ∃ i, i + 1 < N ∧ v1 = nI i := by
              obtain ⟨j, j1, j2⟩ := nI_of a
              rw [j2, bi_p1 k0, nI_leI (by omega) j1] at b
              exact ⟨j, by omega, j2⟩
            obtain ⟨i, i1, i2⟩ := hi
            have hz : v2 = 0 ∨ v2 = 1 := by
              obtain ⟨j, j1, j2⟩ := nI_of d
              rw [j2] at e
              have e' : j ≤ 1 := (nI_leI (b := 1) j1 (by omega)).mp e
              have : j = 0 ∨ j = 1 := by omega
              rcases this with q | q <;> rw [j2, q]
              · exact Or.inl rfl
              · exact Or.inr rfl
            have vi := vp_in_nI (n := i) (N := 32) (by omega) (by omega)
            have h51 : wX_setBreak_51 (fun r u' => wpY_setBreak (fun r' v' => r' = r ∧ i_Rel (k + 3) u' v') (nI C, nI D, nI N, g_para, g_count, g_e, g_way, g_sos, g_eos, f_resolved, a_text, a_breakAfter, b_pair, b_res, b_level, b_over, b_type, b_first, b_seq, b_open, a_stackLevel, a_stackOverride, a_stackIsolate) v1 v2) v2 v1 (nI C) (nI D) (nI N) f_paragraph f_lines f_resolved f_top f_overflowIsolates f_overflowEmbeddings f_validIsolates f_seqLen f_seqLevel f_runDir f_sos f_eos f_openCount a_text a_breakAfter a_partner a_level a_type a_prevKept a_nextKept a_implicit a_pair a_valid a_taken a_stackLevel a_stackOverride a_stackIsolate a_seq a_kind a_mate a_openAt a_wasMark a_lineFirst a_lineSlot a_lineLv a_order a_place := by
              have ez : vp_nar .boolean v2 = v2 := by rcases hz with q | q <;> rw [q] <;> rfl
              have hFK : bi_Fx C D N f_resolved a_text (upd a_breakAfter i v2) := by
                refine ⟨c1, c2, c3, c4, c5, c6, fun j => ?_, c8⟩
                by_cases q : j = i
                · rw [q, pk_us]
                  rcases hz with w | w
                  · exact Or.inl w
                  · exact Or.inr ⟨w, i1⟩
                · rw [pk_un q]; exact c7 j
              have hK01 : ∀ j, (upd a_breakAfter i v2) j = 0 ∨ (upd a_breakAfter i v2) j = 1 := by
                intro j
                rcases hFK.2.2.2.2.2.2.1 j with q | q
                · exact Or.inl q
                · exact Or.inr q.1
              unfold wX_setBreak_51
              rw [i2, nI_clamp (n := i) (by omega), ez]
              refine And.intro vi (nm_e ?_)
              subst pa; subst py
              refine bx_lay2 (C := C) (D := D) (P := P) (r := f_resolved) hFK k0 k1 (fun p hp r => ?_) (fun p hp r => ?_) (fun li lf ls ll od pl' eli hRl => ?_)
              · obtain ⟨x, x1, x2, x3⟩ := k6 p hp r
                exact ⟨x, x1, x3⟩
              · obtain ⟨lv, l1, l2, l3, l4, l5, l6, l7⟩ := rl
                exact l7 p hp r
              · rw [i2] at a b
                refine br_f r0 (br_f a (br_f b (br_f d (br_t e (And.intro vi ?_)))))
                rw [nI_clamp (n := i) (by omega)]
                refine nm_e (by_lineCount r0 hN hK01 ?_)
                exact And.intro eli.symm (bi_in (C := C) (D := D) (N := N) hFK (fun _ => ⟨P, rfl, rfl, ⟨k0, k1, k2, k3, k4, k5, k6⟩, hRl⟩))
            rcases hz with q | q
            · rw [q] at h51 ⊢
              exact br_f (by decide) h51
            · rw [q] at h51 ⊢
              exact br_t rfl h51
          · exact br_f e (br_f r0 (br_f a (br_f b (br_f d (br_f e (And.intro rfl (bi_in hF' hR)))))))
end
section
/-! the small methods -/
theorem i_vc_add {k : Nat} {u : SX} {v : SY} (I : i_Rel k u v) (hk : k + 3 ≤ 1538) (v1 : Int32) : wpX_add (fun r u' => wpY_add (fun r' v' => r' = r ∧ i_Rel (k + 3) u' v') v v1) u v1 := by
  refine bi_el (Q := fun u v => wpX_add (fun r u' => wpY_add (fun r' v' => r' = r ∧ i_Rel (k + 3) u' v') v v1) u v1) ?_ I
  intro C D N f_paragraph f_lines f_resolved f_top f_overflowIsolates f_overflowEmbeddings f_validIsolates f_seqLen f_seqLevel f_runDir f_sos f_eos f_openCount a_text a_breakAfter a_partner a_level a_type a_prevKept a_nextKept a_implicit a_pair a_valid a_taken a_stackLevel a_stackOverride a_stackIsolate a_seq a_kind a_mate a_openAt a_wasMark a_lineFirst a_lineSlot a_lineLv a_order a_place g_para g_count g_e g_way g_sos g_eos b_pair b_res b_level b_over b_type b_first b_seq b_open hF hR
  have IR : i_Rel (k + 3) (nI C, nI D, nI N, f_paragraph, f_lines, f_resolved, f_top, f_overflowIsolates, f_overflowEmbeddings, f_validIsolates, f_seqLen, f_seqLevel, f_runDir, f_sos, f_eos, f_openCount, a_text, a_breakAfter, a_partner, a_level, a_type, a_prevKept, a_nextKept, a_implicit, a_pair, a_valid, a_taken, a_stackLevel, a_stackOverride, a_stackIsolate, a_seq, a_kind, a_mate, a_openAt, a_wasMark, a_lineFirst, a_lineSlot, a_lineLv, a_order, a_place) (nI C, nI D, nI N, g_para, g_count, g_e, g_way, g_sos, g_eos, f_resolved, a_text, a_breakAfter, b_pair, b_res, b_level, b_over, b_type, b_first, b_seq, b_open, a_stackLevel, a_stackOverride, a_stackIsolate) := bi_in hF hR
  obtain ⟨c1, c2, c3, c4, c5, c6, c7, c8⟩ := hF
  unfold wpX_add
  by_cases r0 : f_resolved = 0
  · refine br_t r0 ?_
    by_cases a : v1 < 0
    · exact br_t a (br_t r0 (br_t a (And.intro rfl IR)))
    · refine br_f a ?_
      by_cases b : v1 ≤ 28
      · refine br_t b ?_
        have go : (0 < N → ¬ a_text (N - 1) = 10) → ∀ W : (Int32 → SY → Prop) → Prop, (∀ Q : Int32 → SY → Prop, wY_add_49 Q v1 (nI C) (nI D) (nI N) g_para g_count g_e g_way g_sos g_eos f_resolved a_text a_breakAfter b_pair b_res b_level b_over b_type b_first b_seq b_open a_stackLevel a_stackOverride a_stackIsolate → W Q) → wX_add_49 (fun r u' => W (fun r' v' => r' = r ∧ i_Rel (k + 3) u' v')) v1 (nI C) (nI D) (nI N) f_paragraph f_lines f_resolved f_top f_overflowIsolates f_overflowEmbeddings f_validIsolates f_seqLen f_seqLevel f_runDir f_sos f_eos f_openCount a_text a_breakAfter a_partner a_level a_type a_prevKept a_nextKept a_implicit a_pair a_valid a_taken a_stackLevel a_stackOverride a_stackIsolate a_seq a_kind a_mate a_openAt a_wasMark a_lineFirst a_lineSlot a_lineLv a_order a_place := by
          intro hlast W hW
          unfold wX_add_49
          by_cases d : N < C
          · refine br_t (nI_lt d (by omega)) (nm_r (nI_1 N) ?_)
            rw [nI_clamp (n := N) (by omega)]
            refine And.intro (vp_in_nI (by omega) (by omega)) (nm_e (hW _ ?_))
            unfold wY_add_49
            refine br_t (nI_lt d (by omega)) ?_
            rw [nI_clamp (n := N) (by omega)]
            refine And.intro (vp_in_nI (by omega) (by omega)) (nm_e (nm_r (nI_1 N) (And.intro rfl (bi_in (C := C) (D := D) (N := N + 1) ⟨c1, c2, c3, by omega, fun i hi => ?_, fun j hj => ?_, fun j => ?_, c8⟩ (fun h => ?_)))))
            · by_cases e : i = N
              · rw [e, pk_us]; exact a
              · rw [pk_un e]; exact c5 i (by omega)
            · rw [pk_un (by omega)]
              by_cases e : j + 1 < N
              · exact c6 j e
              · have : j = N - 1 := by omega
                rw [this]; exact hlast (by omega)
            · rcases c7 j with q | q
              · exact Or.inl q
              · exact Or.inr ⟨q.1, by omega⟩
            · rw [r0] at h; exact absurd h (by decide)
          · refine br_f (nI_nlt (by omega) (by omega)) (hW _ ?_)
            exact br_f (nI_nlt (by omega) (by omega)) (And.intro rfl IR)
        by_cases n0 : N = 0
        · have z : nI N ≤ 0 := (bi_le0 (by omega)).mpr n0
          exact br_t z (go (fun q => by omega) (fun Q => wpY_add Q (nI C, nI D, nI N, g_para, g_count, g_e, g_way, g_sos, g_eos, f_resolved, a_text, a_breakAfter, b_pair, b_res, b_level, b_over, b_type, b_first, b_seq, b_open, a_stackLevel, a_stackOverride, a_stackIsolate) v1) (fun Q h => br_t r0 (br_f a (br_t b (br_t z h)))))
        · have z : ¬ nI N ≤ 0 := nI_nle (by omega) (by omega)
          have vn := vp_in_nI (n := N - 1) (N := 32) (by omega) (by omega)
          refine br_f z ?_
          rw [bi_p1 (by omega), nI_clamp (n := N - 1) (by omega)]
          refine And.intro vn (br_c (fun q => ?_) (fun q => ?_))
          · refine br_t r0 (br_f a (br_t b (br_f z ?_)))
            rw [bi_p1 (by omega), nI_clamp (n := N - 1) (by omega)]
            exact And.intro vn (br_t q (And.intro rfl IR))
          · refine go (fun _ => q) (fun Q => wpY_add Q (nI C, nI D, nI N, g_para, g_count, g_e, g_way, g_sos, g_eos, f_resolved, a_text, a_breakAfter, b_pair, b_res, b_level, b_over, b_type, b_first, b_seq, b_open, a_stackLevel, a_stackOverride, a_stackIsolate) v1) (fun Q h => br_t r0 (br_f a (br_t b (br_f z ?_))))
            rw [bi_p1 (by omega), nI_clamp (n := N - 1) (by omega)]
            exact And.intro vn (br_f q h)
      · exact br_f b (br_t r0 (br_f a (br_f b (And.intro rfl IR))))
  · exact br_f r0 (br_f r0 (And.intro rfl IR))
def bi_cz (K : Nat → Int32) (i : Nat) : Nat → Int32 := fun j => if j < i then 0 else K j
theorem bi_cz_s (K : Nat → Int32) (i : Nat) : upd (bi_cz K i) i 0 = bi_cz K (i + 1) := by
  funext j
  by_cases e : j = i
  · rw [e, pk_us]; exact (if_pos (by omega)).symm
  · rw [pk_un e]
    unfold bi_cz
    by_cases z : j < i
    · rw [if_pos z, if_pos (by omega)]
    · rw [if_neg z, if_neg (by omega)]
section
variable {f_cap f_depth f_size f_paragraph f_lines f_resolved f_top f_overflowIsolates f_overflowEmbeddings f_validIsolates f_seqLen f_seqLevel f_runDir f_sos f_eos f_openCount : Int32} {a_text a_breakAfter a_partner a_level a_type a_prevKept a_nextKept a_implicit a_pair a_valid a_taken a_stackLevel a_stackOverride a_stackIsolate a_seq a_kind a_mate a_openAt a_wasMark a_lineFirst a_lineSlot a_lineLv a_order a_place : Nat → Int32}
theorem bx_clear_loop {post : SX → Prop} (k : post (f_cap, f_depth, f_size, f_paragraph, f_lines, f_resolved, f_top, f_overflowIsolates, f_overflowEmbeddings, f_validIsolates, f_seqLen, f_seqLevel, f_runDir, f_sos, f_eos, f_openCount, a_text, bi_cz a_breakAfter 32, a_partner, a_level, a_type, a_prevKept, a_nextKept, a_implicit, a_pair, a_valid, a_taken, a_stackLevel, a_stackOverride, a_stackIsolate, a_seq, a_kind, a_mate, a_openAt, a_wasMark, a_lineFirst, a_lineSlot, a_lineLv, a_order, a_place)) : ∀ n i, 32 - i < n → i ≤ 32 → wX_clear_12 post f_cap f_depth f_size f_paragraph f_lines f_resolved f_top f_overflowIsolates f_overflowEmbeddings f_validIsolates f_seqLen f_seqLevel f_runDir f_sos f_eos f_openCount n (nI i) a_text (bi_cz a_breakAfter i) a_partner a_level a_type a_prevKept a_nextKept a_implicit a_pair a_valid a_taken a_stackLevel a_stackOverride a_stackIsolate a_seq a_kind a_mate a_openAt a_wasMark a_lineFirst a_lineSlot a_lineLv a_order a_place := by
  intro n
  induction n with
  | zero => intro i h; omega
  | succ n ih =>
    intro i hn hi
    by_cases z : 32 ≤ i
    · have e : i = 32 := by omega
      subst e
      exact br_t ((bi_32le (by omega)).mpr z) k
    · refine br_f (fun q => z ((bi_32le (by omega)).mp q)) ?_
      rw [nI_clamp (n := i) (by omega), bi_n0, bi_cz_s]
      exact And.intro (vp_in_nI (by omega) (by omega)) (nm_e (nm_r (nI_1 i) (ih (i + 1) (by omega) (by omega))))
end
section
variable {g_cap g_depth g_len g_para g_count g_e g_way g_sos g_eos g_done : Int32} {b_text b_cut b_pair b_res b_level b_over b_type b_first b_seq b_open b_stLevel b_stOver b_stIso : Nat → Int32}
theorem by_clear_loop {post : SY → Prop} (k : post (g_cap, g_depth, g_len, g_para, g_count, g_e, g_way, g_sos, g_eos, g_done, b_text, bi_cz b_cut 32, b_pair, b_res, b_level, b_over, b_type, b_first, b_seq, b_open, b_stLevel, b_stOver, b_stIso)) : ∀ n i, 32 - i < n → i ≤ 32 → wY_clear_17 post g_cap g_depth g_len g_para g_count g_e g_way g_sos g_eos g_done n (nI i) b_text (bi_cz b_cut i) b_pair b_res b_level b_over b_type b_first b_seq b_open b_stLevel b_stOver b_stIso := by
  intro n
  induction n with
  | zero => intro i h; omega
  | succ n ih =>
    intro i hn hi
    by_cases z : 32 ≤ i
    · have e : i = 32 := by omega
      subst e
      exact br_t ((bi_32le (by omega)).mpr z) k
    · refine br_f (fun q => z ((bi_32le (by omega)).mp q)) ?_
      rw [nI_clamp (n := i) (by omega), bi_cz_s]
      exact And.intro (vp_in_nI (by omega) (by omega)) (nm_e (nm_r (nI_1 i) (ih (i + 1) (by omega) (by omega))))
end
theorem bi_cz_0 (K : Nat → Int32) : bi_cz K 0 = K := by
  funext j
  exact if_neg (by omega)
theorem i_vc_clear {k : Nat} {u : SX} {v : SY} (I : i_Rel k u v) (hk : k + 3 ≤ 1538) : wpX_clear (fun u' => wpY_clear (fun v' => i_Rel (k + 3) u' v') v) u := by
  refine bi_el (Q := fun u v => wpX_clear (fun u' => wpY_clear (fun v' => i_Rel (k + 3) u' v') v) u) ?_ I
  intro C D N f_paragraph f_lines f_resolved f_top f_overflowIsolates f_overflowEmbeddings f_validIsolates f_seqLen f_seqLevel f_runDir f_sos f_eos f_openCount a_text a_breakAfter a_partner a_level a_type a_prevKept a_nextKept a_implicit a_pair a_valid a_taken a_stackLevel a_stackOverride a_stackIsolate a_seq a_kind a_mate a_openAt a_wasMark a_lineFirst a_lineSlot a_lineLv a_order a_place g_para g_count g_e g_way g_sos g_eos b_pair b_res b_level b_over b_type b_first b_seq b_open hF hR
  obtain ⟨c1, c2, c3, c4, c5, c6, c7, c8⟩ := hF
  have fin : i_Rel (k + 3) (nI C, nI D, nI 0, f_paragraph, f_lines, 0, f_top, f_overflowIsolates, f_overflowEmbeddings, f_validIsolates, f_seqLen, f_seqLevel, f_runDir, f_sos, f_eos, f_openCount, a_text, bi_cz a_breakAfter 32, a_partner, a_level, a_type, a_prevKept, a_nextKept, a_implicit, a_pair, a_valid, a_taken, a_stackLevel, a_stackOverride, a_stackIsolate, a_seq, a_kind, a_mate, a_openAt, a_wasMark, a_lineFirst, a_lineSlot, a_lineLv, a_order, a_place) (nI C, nI D, nI 0, 0, g_count, g_e, g_way, g_sos, g_eos, 0, a_text, bi_cz a_breakAfter 32, b_pair, b_res, b_level, b_over, b_type, b_first, b_seq, b_open, a_stackLevel, a_stackOverride, a_stackIsolate) := by
    refine bi_in (C := C) (D := D) (N := 0) ⟨c1, c2, c3, by omega, fun i hi => by omega, fun j hj => by omega, fun j => Or.inl ?_, Or.inl rfl⟩ (fun h => absurd h (by decide))
    unfold bi_cz
    by_cases z : j < 32
    · exact if_pos z
    · rw [if_neg z]
      rcases c7 j with q | q
      · exact q
      · omega
  have hx := bx_clear_loop (post := fun u' => wpY_clear (fun v' => i_Rel (k + 3) u' v') (nI C, nI D, nI N, g_para, g_count, g_e, g_way, g_sos, g_eos, f_resolved, a_text, a_breakAfter, b_pair, b_res, b_level, b_over, b_type, b_first, b_seq, b_open, a_stackLevel, a_stackOverride, a_stackIsolate)) (f_cap := nI C) (f_depth := nI D) (f_size := nI 0) (f_paragraph := f_paragraph) (f_lines := f_lines) (f_resolved := 0) (f_top := f_top) (f_overflowIsolates := f_overflowIsolates) (f_overflowEmbeddings := f_overflowEmbeddings) (f_validIsolates := f_validIsolates) (f_seqLen := f_seqLen) (f_seqLevel := f_seqLevel) (f_runDir := f_runDir) (f_sos := f_sos) (f_eos := f_eos) (f_openCount := f_openCount) (a_text := a_text) (a_breakAfter := a_breakAfter) (a_partner := a_partner) (a_level := a_level) (a_type := a_type) (a_prevKept := a_prevKept) (a_nextKept := a_nextKept) (a_implicit := a_implicit) (a_pair := a_pair) (a_valid := a_valid) (a_taken := a_taken) (a_stackLevel := a_stackLevel) (a_stackOverride := a_stackOverride) (a_stackIsolate := a_stackIsolate) (a_seq := a_seq) (a_kind := a_kind) (a_mate := a_mate) (a_openAt := a_openAt) (a_wasMark := a_wasMark) (a_lineFirst := a_lineFirst) (a_lineSlot := a_lineSlot) (a_lineLv := a_lineLv) (a_order := a_order) (a_place := a_place) (by
    have hy := by_clear_loop (post := fun v' => i_Rel (k + 3) (nI C, nI D, nI 0, f_paragraph, f_lines, 0, f_top, f_overflowIsolates, f_overflowEmbeddings, f_validIsolates, f_seqLen, f_seqLevel, f_runDir, f_sos, f_eos, f_openCount, a_text, bi_cz a_breakAfter 32, a_partner, a_level, a_type, a_prevKept, a_nextKept, a_implicit, a_pair, a_valid, a_taken, a_stackLevel, a_stackOverride, a_stackIsolate, a_seq, a_kind, a_mate, a_openAt, a_wasMark, a_lineFirst, a_lineSlot, a_lineLv, a_order, a_place) v') (g_cap := nI C) (g_depth := nI D) (g_len := nI 0) (g_para := 0) (g_count := g_count) (g_e := g_e) (g_way := g_way) (g_sos := g_sos) (g_eos := g_eos) (g_done := 0) (b_text := a_text) (b_cut := a_breakAfter) (b_pair := b_pair) (b_res := b_res) (b_level := b_level) (b_over := b_over) (b_type := b_type) (b_first := b_first) (b_seq := b_seq) (b_open := b_open) (b_stLevel := a_stackLevel) (b_stOver := a_stackOverride) (b_stIso := a_stackIsolate) fin 33 0 (by omega) (by omega)
    rw [bi_cz_0] at hy
    exact Exists.intro 33 hy) 33 0 (by omega) (by omega)
  rw [bi_cz_0] at hx
  exact Exists.intro 33 hx
theorem i_vc_length {k : Nat} {u : SX} {v : SY} (I : i_Rel k u v) (hk : k + 3 ≤ 1538) : wpX_length (fun r => wpY_length (fun r' => r' = r ∧ i_Rel (k + 3) u v) v) u := by
  refine bi_el (Q := fun u v => wpX_length (fun r => wpY_length (fun r' => r' = r ∧ i_Rel (k + 3) u v) v) u) ?_ I
  intro C D N f_paragraph f_lines f_resolved f_top f_overflowIsolates f_overflowEmbeddings f_validIsolates f_seqLen f_seqLevel f_runDir f_sos f_eos f_openCount a_text a_breakAfter a_partner a_level a_type a_prevKept a_nextKept a_implicit a_pair a_valid a_taken a_stackLevel a_stackOverride a_stackIsolate a_seq a_kind a_mate a_openAt a_wasMark a_lineFirst a_lineSlot a_lineLv a_order a_place g_para g_count g_e g_way g_sos g_eos b_pair b_res b_level b_over b_type b_first b_seq b_open hF hR
  exact And.intro rfl (bi_in hF hR)
theorem i_vc_codeAt {k : Nat} {u : SX} {v : SY} (I : i_Rel k u v) (hk : k + 3 ≤ 1538) (v1 : Int32) : wpX_codeAt (fun r => wpY_codeAt (fun r' => r' = r ∧ i_Rel (k + 3) u v) v v1) u v1 := by
  refine bi_el (Q := fun u v => wpX_codeAt (fun r => wpY_codeAt (fun r' => r' = r ∧ i_Rel (k + 3) u v) v v1) u v1) ?_ I
  intro C D N f_paragraph f_lines f_resolved f_top f_overflowIsolates f_overflowEmbeddings f_validIsolates f_seqLen f_seqLevel f_runDir f_sos f_eos f_openCount a_text a_breakAfter a_partner a_level a_type a_prevKept a_nextKept a_implicit a_pair a_valid a_taken a_stackLevel a_stackOverride a_stackIsolate a_seq a_kind a_mate a_openAt a_wasMark a_lineFirst a_lineSlot a_lineLv a_order a_place g_para g_count g_e g_way g_sos g_eos b_pair b_res b_level b_over b_type b_first b_seq b_open hF hR
  have IR : i_Rel (k + 3) (nI C, nI D, nI N, f_paragraph, f_lines, f_resolved, f_top, f_overflowIsolates, f_overflowEmbeddings, f_validIsolates, f_seqLen, f_seqLevel, f_runDir, f_sos, f_eos, f_openCount, a_text, a_breakAfter, a_partner, a_level, a_type, a_prevKept, a_nextKept, a_implicit, a_pair, a_valid, a_taken, a_stackLevel, a_stackOverride, a_stackIsolate, a_seq, a_kind, a_mate, a_openAt, a_wasMark, a_lineFirst, a_lineSlot, a_lineLv, a_order, a_place) (nI C, nI D, nI N, g_para, g_count, g_e, g_way, g_sos, g_eos, f_resolved, a_text, a_breakAfter, b_pair, b_res, b_level, b_over, b_type, b_first, b_seq, b_open, a_stackLevel, a_stackOverride, a_stackIsolate) := bi_in hF hR
  obtain ⟨c1, c2, c3, c4, c5, c6, c7, c8⟩ := hF
  by_cases a : v1 < 0
  · exact br_t a (br_t a (And.intro rfl IR))
  · by_cases b : v1 < nI N
    · have hv : vp_in v1 32 := by
        obtain ⟨j, j1, j2⟩ := nI_of a
        rw [j2, nI_ltI j1 (by omega)] at b
        rw [j2]; exact vp_in_nI (by omega) (by omega)
      exact br_f a (br_t b (And.intro hv (br_f a (br_t b (And.intro hv (And.intro rfl IR))))))
    · exact br_f a (br_f b (br_f a (br_f b (And.intro rfl IR))))
theorem i_vc_paragraphLevel {k : Nat} {u : SX} {v : SY} (I : i_Rel k u v) (hk : k + 3 ≤ 1538) : wpX_paragraphLevel (fun r => wpY_paragraphLevel (fun r' => r' = r ∧ i_Rel (k + 3) u v) v) u := by
  refine bi_el (Q := fun u v => wpX_paragraphLevel (fun r => wpY_paragraphLevel (fun r' => r' = r ∧ i_Rel (k + 3) u v) v) u) ?_ I
  intro C D N f_paragraph f_lines f_resolved f_top f_overflowIsolates f_overflowEmbeddings f_validIsolates f_seqLen f_seqLevel f_runDir f_sos f_eos f_openCount a_text a_breakAfter a_partner a_level a_type a_prevKept a_nextKept a_implicit a_pair a_valid a_taken a_stackLevel a_stackOverride a_stackIsolate a_seq a_kind a_mate a_openAt a_wasMark a_lineFirst a_lineSlot a_lineLv a_order a_place g_para g_count g_e g_way g_sos g_eos b_pair b_res b_level b_over b_type b_first b_seq b_open hF hR
  have IR : i_Rel (k + 3) (nI C, nI D, nI N, f_paragraph, f_lines, f_resolved, f_top, f_overflowIsolates, f_overflowEmbeddings, f_validIsolates, f_seqLen, f_seqLevel, f_runDir, f_sos, f_eos, f_openCount, a_text, a_breakAfter, a_partner, a_level, a_type, a_prevKept, a_nextKept, a_implicit, a_pair, a_valid, a_taken, a_stackLevel, a_stackOverride, a_stackIsolate, a_seq, a_kind, a_mate, a_openAt, a_wasMark, a_lineFirst, a_lineSlot, a_lineLv, a_order, a_place) (nI C, nI D, nI N, g_para, g_count, g_e, g_way, g_sos, g_eos, f_resolved, a_text, a_breakAfter, b_pair, b_res, b_level, b_over, b_type, b_first, b_seq, b_open, a_stackLevel, a_stackOverride, a_stackIsolate) := bi_in hF hR
  by_cases r0 : f_resolved = 0
  · exact br_t r0 (br_t r0 (And.intro rfl IR))
  · obtain ⟨P, pa, py, _, _⟩ := hR (hF.2.2.2.2.2.2.2.resolve_left r0)
    exact br_f r0 (br_f r0 (And.intro (by rw [pa, py]) IR))
end
section
/-! the getters -/
section
variable {f_cap f_depth f_size f_paragraph f_lines f_resolved f_top f_overflowIsolates f_overflowEmbeddings f_validIsolates f_seqLen f_seqLevel f_runDir f_sos f_eos f_openCount : Int32} {a_text a_breakAfter a_partner a_level a_type a_prevKept a_nextKept a_implicit a_pair a_valid a_taken a_stackLevel a_stackOverride a_stackIsolate a_seq a_kind a_mate a_openAt a_wasMark a_lineFirst a_lineSlot a_lineLv a_order a_place : Nat → Int32}
theorem bx_ref4 {post : Int32 → Prop} {A : Prop} {v : Int32} (r0 : f_resolved = 0) (k : post (-4)) : wpX_refuse (fun r1 => (0 ≤ r1 → A) ∧ (¬ 0 ≤ r1 → wpX_refuse (fun r => post r) (f_cap, f_depth, f_size, f_paragraph, f_lines, f_resolved, f_top, f_overflowIsolates, f_overflowEmbeddings, f_validIsolates, f_seqLen, f_seqLevel, f_runDir, f_sos, f_eos, f_openCount, a_text, a_breakAfter, a_partner, a_level, a_type, a_prevKept, a_nextKept, a_implicit, a_pair, a_valid, a_taken, a_stackLevel, a_stackOverride, a_stackIsolate, a_seq, a_kind, a_mate, a_openAt, a_wasMark, a_lineFirst, a_lineSlot, a_lineLv, a_order, a_place) v)) (f_cap, f_depth, f_size, f_paragraph, f_lines, f_resolved, f_top, f_overflowIsolates, f_overflowEmbeddings, f_validIsolates, f_seqLen, f_seqLevel, f_runDir, f_sos, f_eos, f_openCount, a_text, a_breakAfter, a_partner, a_level, a_type, a_prevKept, a_nextKept, a_implicit, a_pair, a_valid, a_taken, a_stackLevel, a_stackOverride, a_stackIsolate, a_seq, a_kind, a_mate, a_openAt, a_wasMark, a_lineFirst, a_lineSlot, a_lineLv, a_order, a_place) v := br_t r0 (br_f (by decide) (br_t r0 k))
theorem bx_ref5 {post : Int32 → Prop} {A : Prop} {v : Int32} (r0 : ¬ f_resolved = 0) (bad : v < 0 ∨ ¬ v < f_size) (k : post (-5)) : wpX_refuse (fun r1 => (0 ≤ r1 → A) ∧ (¬ 0 ≤ r1 → wpX_refuse (fun r => post r) (f_cap, f_depth, f_size, f_paragraph, f_lines, f_resolved, f_top, f_overflowIsolates, f_overflowEmbeddings, f_validIsolates, f_seqLen, f_seqLevel, f_runDir, f_sos, f_eos, f_openCount, a_text, a_breakAfter, a_partner, a_level, a_type, a_prevKept, a_nextKept, a_implicit, a_pair, a_valid, a_taken, a_stackLevel, a_stackOverride, a_stackIsolate, a_seq, a_kind, a_mate, a_openAt, a_wasMark, a_lineFirst, a_lineSlot, a_lineLv, a_order, a_place) v)) (f_cap, f_depth, f_size, f_paragraph, f_lines, f_resolved, f_top, f_overflowIsolates, f_overflowEmbeddings, f_validIsolates, f_seqLen, f_seqLevel, f_runDir, f_sos, f_eos, f_openCount, a_text, a_breakAfter, a_partner, a_level, a_type, a_prevKept, a_nextKept, a_implicit, a_pair, a_valid, a_taken, a_stackLevel, a_stackOverride, a_stackIsolate, a_seq, a_kind, a_mate, a_openAt, a_wasMark, a_lineFirst, a_lineSlot, a_lineLv, a_order, a_place) v := by
  by_cases a : v < 0
  · exact br_f r0 (br_t a (br_f (by decide) (br_f r0 (br_t a k))))
  · have b := bad.resolve_left a
    exact br_f r0 (br_f a (br_f b (br_f (by decide) (br_f r0 (br_f a (br_f b k))))))
theorem bx_ref0 {B : Int32 → Prop} {A : Prop} {v : Int32} (r0 : ¬ f_resolved = 0) (a : ¬ v < 0) (b : v < f_size) (k : A) : wpX_refuse (fun r1 => (0 ≤ r1 → A) ∧ (¬ 0 ≤ r1 → B r1)) (f_cap, f_depth, f_size, f_paragraph, f_lines, f_resolved, f_top, f_overflowIsolates, f_overflowEmbeddings, f_validIsolates, f_seqLen, f_seqLevel, f_runDir, f_sos, f_eos, f_openCount, a_text, a_breakAfter, a_partner, a_level, a_type, a_prevKept, a_nextKept, a_implicit, a_pair, a_valid, a_taken, a_stackLevel, a_stackOverride, a_stackIsolate, a_seq, a_kind, a_mate, a_openAt, a_wasMark, a_lineFirst, a_lineSlot, a_lineLv, a_order, a_place) v := br_f r0 (br_f a (br_t b (br_t (by decide) k)))
theorem bx_rl4 {post : Int32 → Prop} {A : Prop} {v : Int32} (r0 : f_resolved = 0) (k : post (-4)) : wpX_refuseLine (fun r1 => (0 ≤ r1 → A) ∧ (¬ 0 ≤ r1 → wpX_refuseLine (fun r => post r) (f_cap, f_depth, f_size, f_paragraph, f_lines, f_resolved, f_top, f_overflowIsolates, f_overflowEmbeddings, f_validIsolates, f_seqLen, f_seqLevel, f_runDir, f_sos, f_eos, f_openCount, a_text, a_breakAfter, a_partner, a_level, a_type, a_prevKept, a_nextKept, a_implicit, a_pair, a_valid, a_taken, a_stackLevel, a_stackOverride, a_stackIsolate, a_seq, a_kind, a_mate, a_openAt, a_wasMark, a_lineFirst, a_lineSlot, a_lineLv, a_order, a_place) v)) (f_cap, f_depth, f_size, f_paragraph, f_lines, f_resolved, f_top, f_overflowIsolates, f_overflowEmbeddings, f_validIsolates, f_seqLen, f_seqLevel, f_runDir, f_sos, f_eos, f_openCount, a_text, a_breakAfter, a_partner, a_level, a_type, a_prevKept, a_nextKept, a_implicit, a_pair, a_valid, a_taken, a_stackLevel, a_stackOverride, a_stackIsolate, a_seq, a_kind, a_mate, a_openAt, a_wasMark, a_lineFirst, a_lineSlot, a_lineLv, a_order, a_place) v := br_t r0 (br_f (by decide) (br_t r0 k))
theorem bx_rl5 {post : Int32 → Prop} {A : Prop} {v : Int32} (r0 : ¬ f_resolved = 0) (bad : v < 0 ∨ ¬ v < f_lines) (k : post (-5)) : wpX_refuseLine (fun r1 => (0 ≤ r1 → A) ∧ (¬ 0 ≤ r1 → wpX_refuseLine (fun r => post r) (f_cap, f_depth, f_size, f_paragraph, f_lines, f_resolved, f_top, f_overflowIsolates, f_overflowEmbeddings, f_validIsolates, f_seqLen, f_seqLevel, f_runDir, f_sos, f_eos, f_openCount, a_text, a_breakAfter, a_partner, a_level, a_type, a_prevKept, a_nextKept, a_implicit, a_pair, a_valid, a_taken, a_stackLevel, a_stackOverride, a_stackIsolate, a_seq, a_kind, a_mate, a_openAt, a_wasMark, a_lineFirst, a_lineSlot, a_lineLv, a_order, a_place) v)) (f_cap, f_depth, f_size, f_paragraph, f_lines, f_resolved, f_top, f_overflowIsolates, f_overflowEmbeddings, f_validIsolates, f_seqLen, f_seqLevel, f_runDir, f_sos, f_eos, f_openCount, a_text, a_breakAfter, a_partner, a_level, a_type, a_prevKept, a_nextKept, a_implicit, a_pair, a_valid, a_taken, a_stackLevel, a_stackOverride, a_stackIsolate, a_seq, a_kind, a_mate, a_openAt, a_wasMark, a_lineFirst, a_lineSlot, a_lineLv, a_order, a_place) v := by
  by_cases a : v < 0
  · exact br_f r0 (br_t a (br_f (by decide) (br_f r0 (br_t a k))))
  · have b := bad.resolve_left a
    exact br_f r0 (br_f a (br_f b (br_f (by decide) (br_f r0 (br_f a (br_f b k))))))
theorem bx_rl0 {B : Int32 → Prop} {A : Prop} {v : Int32} (r0 : ¬ f_resolved = 0) (a : ¬ v < 0) (b : v < f_lines) (k : A) : wpX_refuseLine (fun r1 => (0 ≤ r1 → A) ∧ (¬ 0 ≤ r1 → B r1)) (f_cap, f_depth, f_size, f_paragraph, f_lines, f_resolved, f_top, f_overflowIsolates, f_overflowEmbeddings, f_validIsolates, f_seqLen, f_seqLevel, f_runDir, f_sos, f_eos, f_openCount, a_text, a_breakAfter, a_partner, a_level, a_type, a_prevKept, a_nextKept, a_implicit, a_pair, a_valid, a_taken, a_stackLevel, a_stackOverride, a_stackIsolate, a_seq, a_kind, a_mate, a_openAt, a_wasMark, a_lineFirst, a_lineSlot, a_lineLv, a_order, a_place) v := br_f r0 (br_f a (br_t b (br_t (by decide) k)))
end
section
variable {g_cap g_depth g_len g_para g_count g_e g_way g_sos g_eos g_done : Int32} {b_text b_cut b_pair b_res b_level b_over b_type b_first b_seq b_open b_stLevel b_stOver b_stIso : Nat → Int32}
theorem by_rf4 {post : Int32 → Prop} {v : Int32} (r0 : g_done = 0) (k : post (-4)) : wpY_refusal post (g_cap, g_depth, g_len, g_para, g_count, g_e, g_way, g_sos, g_eos, g_done, b_text, b_cut, b_pair, b_res, b_level, b_over, b_type, b_first, b_seq, b_open, b_stLevel, b_stOver, b_stIso) v := br_t r0 k
theorem by_rf5 {post : Int32 → Prop} {v : Int32} (r0 : ¬ g_done = 0) (bad : v < 0 ∨ ¬ v < g_len) (k : post (-5)) : wpY_refusal post (g_cap, g_depth, g_len, g_para, g_count, g_e, g_way, g_sos, g_eos, g_done, b_text, b_cut, b_pair, b_res, b_level, b_over, b_type, b_first, b_seq, b_open, b_stLevel, b_stOver, b_stIso) v := by
  by_cases a : v < 0
  · exact br_f r0 (br_t a k)
  · exact br_f r0 (br_f a (br_f (bad.resolve_left a) k))
theorem by_un4 {post : Int32 → Prop} {v : Int32} (r0 : g_done = 0) (k : post (-4)) : wpY_unseen post (g_cap, g_depth, g_len, g_para, g_count, g_e, g_way, g_sos, g_eos, g_done, b_text, b_cut, b_pair, b_res, b_level, b_over, b_type, b_first, b_seq, b_open, b_stLevel, b_stOver, b_stIso) v := by
  unfold wpY_unseen
  exact by_rf4 r0 (br_f (by decide) k)
theorem by_un5 {post : Int32 → Prop} {v : Int32} (r0 : ¬ g_done = 0) (bad : v < 0 ∨ ¬ v < g_len) (k : post (-5)) : wpY_unseen post (g_cap, g_depth, g_len, g_para, g_count, g_e, g_way, g_sos, g_eos, g_done, b_text, b_cut, b_pair, b_res, b_level, b_over, b_type, b_first, b_seq, b_open, b_stLevel, b_stOver, b_stIso) v := by
  unfold wpY_unseen
  exact by_rf5 r0 bad (br_f (by decide) k)
theorem by_lr4 {post : Int32 → Prop} {v : Int32} (r0 : g_done = 0) (k : post (-4)) : wpY_lineRefusal post (g_cap, g_depth, g_len, g_para, g_count, g_e, g_way, g_sos, g_eos, g_done, b_text, b_cut, b_pair, b_res, b_level, b_over, b_type, b_first, b_seq, b_open, b_stLevel, b_stOver, b_stIso) v := by
  unfold wpY_lineRefusal
  exact br_t r0 (br_t r0 k)
theorem by_lr {post : Int32 → Prop} {v : Int32} {N : Nat} (r0 : ¬ g_done = 0) (hN : N ≤ 32) (hK : ∀ j, b_cut j = 0 ∨ b_cut j = 1) (k5 : (v < 0 ∨ ¬ v < nI (bi_ln b_cut N + 1)) → post (-5)) (k0 : ¬ v < 0 → v < nI (bi_ln b_cut N + 1) → post 0) : wpY_lineRefusal post (g_cap, g_depth, nI N, g_para, g_count, g_e, g_way, g_sos, g_eos, g_done, b_text, b_cut, b_pair, b_res, b_level, b_over, b_type, b_first, b_seq, b_open, b_stLevel, b_stOver, b_stIso) v := by
  unfold wpY_lineRefusal
  refine by_lineCount r0 hN hK (br_f r0 ?_)
  exact br_c (fun a => k5 (Or.inl a)) (fun a => br_c (fun b => k0 a b) (fun b => k5 (Or.inr b)))
end
theorem bi_ix {v : Int32} {N : Nat} (hN : N < 2 ^ 31) (a : ¬ v < 0) (b : v < nI N) : ∃ i, i < N ∧ v = nI i := by
  obtain ⟨j, j1, j2⟩ := nI_of a
  rw [j2, nI_ltI j1 hN] at b
  exact ⟨j, b, j2⟩
theorem bi_23 {c : Int32} : 23 ≤ c ↔ ¬ c ≤ 22 := by
  rw [Int32.le_iff_toInt_le, Int32.le_iff_toInt_le, show (23 : Int32).toInt = 23 by decide, show (22 : Int32).toInt = 22 by decide]
  omega
theorem bi_lt23 {c : Int32} : c < 23 ↔ c ≤ 22 := by
  rw [Int32.lt_iff_toInt_lt, Int32.le_iff_toInt_le, show (23 : Int32).toInt = 23 by decide, show (22 : Int32).toInt = 22 by decide]
  omega
theorem bi_yl_lv {T K : Nat → Int32} {N : Nat} {p : Int32} {im rs : Nat → Int32} {i : Nat} (h1 : bi_R (T i) → im i = -1) (h2 : ¬ bi_R (T i) → im i = rs i) : bi_yl T K N p rs i = bi_lv T K N p im i := by
  unfold bi_yl bi_lv
  by_cases r : bi_R (T i)
  · rw [if_pos r, if_pos r, h1 r]
  · rw [if_neg r, if_neg r, h2 r]
theorem i_vc_bracketMatch {k : Nat} {u : SX} {v : SY} (I : i_Rel k u v) (hk : k + 3 ≤ 1538) (v1 : Int32) : wpX_bracketMatch (fun r => wpY_bracketMatch (fun r' => r' = r ∧ i_Rel (k + 3) u v) v v1) u v1 := by
  refine bi_el (Q := fun u v => wpX_bracketMatch (fun r => wpY_bracketMatch (fun r' => r' = r ∧ i_Rel (k + 3) u v) v v1) u v1) ?_ I
  intro C D N f_paragraph f_lines f_resolved f_top f_overflowIsolates f_overflowEmbeddings f_validIsolates f_seqLen f_seqLevel f_runDir f_sos f_eos f_openCount a_text a_breakAfter a_partner a_level a_type a_prevKept a_nextKept a_implicit a_pair a_valid a_taken a_stackLevel a_stackOverride a_stackIsolate a_seq a_kind a_mate a_openAt a_wasMark a_lineFirst a_lineSlot a_lineLv a_order a_place g_para g_count g_e g_way g_sos g_eos b_pair b_res b_level b_over b_type b_first b_seq b_open hF hR
  have IR : i_Rel (k + 3) (nI C, nI D, nI N, f_paragraph, f_lines, f_resolved, f_top, f_overflowIsolates, f_overflowEmbeddings, f_validIsolates, f_seqLen, f_seqLevel, f_runDir, f_sos, f_eos, f_openCount, a_text, a_breakAfter, a_partner, a_level, a_type, a_prevKept, a_nextKept, a_implicit, a_pair, a_valid, a_taken, a_stackLevel, a_stackOverride, a_stackIsolate, a_seq, a_kind, a_mate, a_openAt, a_wasMark, a_lineFirst, a_lineSlot, a_lineLv, a_order, a_place) (nI C, nI D, nI N, g_para, g_count, g_e, g_way, g_sos, g_eos, f_resolved, a_text, a_breakAfter, b_pair, b_res, b_level, b_over, b_type, b_first, b_seq, b_open, a_stackLevel, a_stackOverride, a_stackIsolate) := bi_in hF hR
  have hN : N ≤ 32 := by have := hF.1; have := hF.2.2.2.1; omega
  unfold wpX_bracketMatch
  by_cases r0 : f_resolved = 0
  · refine bx_ref4 r0 ?_
    unfold wpY_bracketMatch
    exact by_rf4 r0 (br_f (by decide) (And.intro rfl IR))
  · by_cases bad : v1 < 0 ∨ ¬ v1 < nI N
    · refine bx_ref5 r0 bad ?_
      unfold wpY_bracketMatch
      exact by_rf5 r0 bad (br_f (by decide) (And.intro rfl IR))
    · have a : ¬ v1 < 0 := fun q => bad (Or.inl q)
      have b : v1 < nI N := Classical.byContradiction (fun q => bad (Or.inr q))
      obtain ⟨i, i1, rfl⟩ := bi_ix (by omega) a b
      obtain ⟨P, pa, py, rc, rl⟩ := hR (hF.2.2.2.2.2.2.2.resolve_left r0)
      have pr := rc.2.2.2.2.1 i i1
      have vi := vp_in_nI (n := i) (N := 32) (by omega) (by omega)
      refine bx_ref0 r0 a b (And.intro vi ?_)
      unfold wpY_bracketMatch
      refine by_refusal r0 hN i1 (br_t rfl (And.intro vi ?_))
      rw [nI_clamp (n := i) (by omega)]
      rcases pr with ⟨q1, q2⟩ | ⟨m, m1, m2, m3, m4⟩
      · unfold bi_p0 at q2
        by_cases t : a_text i ≤ 22
        · rw [if_pos t] at q2
          exact br_f (fun q => (bi_23.mp q) t) (And.intro q2.symm IR)
        · rw [if_neg t] at q2
          refine br_t (bi_23.mpr t) (And.intro vi ?_)
          exact br_f (by rw [q1]; decide) (And.intro q2.symm IR)
      · refine br_t (bi_23.mpr m4) (And.intro vi (br_t (by rw [m3]; exact nI_pos' (by omega)) (And.intro vi (And.intro ?_ IR))))
        rw [m2, m3]
theorem i_vc_resolvedLevel {k : Nat} {u : SX} {v : SY} (I : i_Rel k u v) (hk : k + 3 ≤ 1538) (v1 : Int32) : wpX_resolvedLevel (fun r => wpY_resolvedLevel (fun r' => r' = r ∧ i_Rel (k + 3) u v) v v1) u v1 := by
  refine bi_el (Q := fun u v => wpX_resolvedLevel (fun r => wpY_resolvedLevel (fun r' => r' = r ∧ i_Rel (k + 3) u v) v v1) u v1) ?_ I
  intro C D N f_paragraph f_lines f_resolved f_top f_overflowIsolates f_overflowEmbeddings f_validIsolates f_seqLen f_seqLevel f_runDir f_sos f_eos f_openCount a_text a_breakAfter a_partner a_level a_type a_prevKept a_nextKept a_implicit a_pair a_valid a_taken a_stackLevel a_stackOverride a_stackIsolate a_seq a_kind a_mate a_openAt a_wasMark a_lineFirst a_lineSlot a_lineLv a_order a_place g_para g_count g_e g_way g_sos g_eos b_pair b_res b_level b_over b_type b_first b_seq b_open hF hR
  have IR : i_Rel (k + 3) (nI C, nI D, nI N, f_paragraph, f_lines, f_resolved, f_top, f_overflowIsolates, f_overflowEmbeddings, f_validIsolates, f_seqLen, f_seqLevel, f_runDir, f_sos, f_eos, f_openCount, a_text, a_breakAfter, a_partner, a_level, a_type, a_prevKept, a_nextKept, a_implicit, a_pair, a_valid, a_taken, a_stackLevel, a_stackOverride, a_stackIsolate, a_seq, a_kind, a_mate, a_openAt, a_wasMark, a_lineFirst, a_lineSlot, a_lineLv, a_order, a_place) (nI C, nI D, nI N, g_para, g_count, g_e, g_way, g_sos, g_eos, f_resolved, a_text, a_breakAfter, b_pair, b_res, b_level, b_over, b_type, b_first, b_seq, b_open, a_stackLevel, a_stackOverride, a_stackIsolate) := bi_in hF hR
  have hN : N ≤ 32 := by have := hF.1; have := hF.2.2.2.1; omega
  unfold wpX_resolvedLevel
  by_cases r0 : f_resolved = 0
  · refine bx_ref4 r0 ?_
    unfold wpY_resolvedLevel
    exact by_un4 r0 (br_f (by decide) (And.intro rfl IR))
  · by_cases bad : v1 < 0 ∨ ¬ v1 < nI N
    · refine bx_ref5 r0 bad ?_
      unfold wpY_resolvedLevel
      exact by_un5 r0 bad (br_f (by decide) (And.intro rfl IR))
    · have a : ¬ v1 < 0 := fun q => bad (Or.inl q)
      have b : v1 < nI N := Classical.byContradiction (fun q => bad (Or.inr q))
      obtain ⟨i, i1, rfl⟩ := bi_ix (by omega) a b
      obtain ⟨P, pa, py, rc, rl⟩ := hR (hF.2.2.2.2.2.2.2.resolve_left r0)
      have vi := vp_in_nI (n := i) (N := 32) (by omega) (by omega)
      refine bx_ref0 r0 a b (And.intro vi ?_)
      unfold wpY_resolvedLevel
      rw [nI_clamp (n := i) (by omega)]
      refine by_unseen r0 hN i1 (fun r => br_t rfl (And.intro vi ?_)) (fun r => br_f (by decide) (And.intro ?_ IR))
      · obtain ⟨e, e1, e2, e3⟩ := rc.2.2.2.2.2.2 i i1 r
        exact And.intro (by rw [e1, e2]) IR
      · exact (rc.2.2.2.2.2.1 i i1 r).symm
theorem i_vc_lineLevel {k : Nat} {u : SX} {v : SY} (I : i_Rel k u v) (hk : k + 3 ≤ 1538) (v1 : Int32) : wpX_lineLevel (fun r => wpY_lineLevel (fun r' => r' = r ∧ i_Rel (k + 3) u v) v v1) u v1 := by
  refine bi_el (Q := fun u v => wpX_lineLevel (fun r => wpY_lineLevel (fun r' => r' = r ∧ i_Rel (k + 3) u v) v v1) u v1) ?_ I
  intro C D N f_paragraph f_lines f_resolved f_top f_overflowIsolates f_overflowEmbeddings f_validIsolates f_seqLen f_seqLevel f_runDir f_sos f_eos f_openCount a_text a_breakAfter a_partner a_level a_type a_prevKept a_nextKept a_implicit a_pair a_valid a_taken a_stackLevel a_stackOverride a_stackIsolate a_seq a_kind a_mate a_openAt a_wasMark a_lineFirst a_lineSlot a_lineLv a_order a_place g_para g_count g_e g_way g_sos g_eos b_pair b_res b_level b_over b_type b_first b_seq b_open hF hR
  have IR : i_Rel (k + 3) (nI C, nI D, nI N, f_paragraph, f_lines, f_resolved, f_top, f_overflowIsolates, f_overflowEmbeddings, f_validIsolates, f_seqLen, f_seqLevel, f_runDir, f_sos, f_eos, f_openCount, a_text, a_breakAfter, a_partner, a_level, a_type, a_prevKept, a_nextKept, a_implicit, a_pair, a_valid, a_taken, a_stackLevel, a_stackOverride, a_stackIsolate, a_seq, a_kind, a_mate, a_openAt, a_wasMark, a_lineFirst, a_lineSlot, a_lineLv, a_order, a_place) (nI C, nI D, nI N, g_para, g_count, g_e, g_way, g_sos, g_eos, f_resolved, a_text, a_breakAfter, b_pair, b_res, b_level, b_over, b_type, b_first, b_seq, b_open, a_stackLevel, a_stackOverride, a_stackIsolate) := bi_in hF hR
  have hN : N ≤ 32 := by have := hF.1; have := hF.2.2.2.1; omega
  have hK : ∀ j, a_breakAfter j = 0 ∨ a_breakAfter j = 1 := fun j => (hF.2.2.2.2.2.2.1 j).elim Or.inl (fun q => Or.inr q.1)
  unfold wpX_lineLevel
  by_cases r0 : f_resolved = 0
  · refine bx_ref4 r0 ?_
    unfold wpY_lineLevel
    exact by_un4 r0 (br_f (by decide) (And.intro rfl IR))
  · by_cases bad : v1 < 0 ∨ ¬ v1 < nI N
    · refine bx_ref5 r0 bad ?_
      unfold wpY_lineLevel
      exact by_un5 r0 bad (br_f (by decide) (And.intro rfl IR))
    · have a : ¬ v1 < 0 := fun q => bad (Or.inl q)
      have b : v1 < nI N := Classical.byContradiction (fun q => bad (Or.inr q))
      obtain ⟨i, i1, rfl⟩ := bi_ix (by omega) a b
      obtain ⟨P, pa, py, rc, rl⟩ := hR (hF.2.2.2.2.2.2.2.resolve_left r0)
      obtain ⟨lv, l1, l2, l3, l4, l5, l6, l7⟩ := rl
      have vi := vp_in_nI (n := i) (N := 32) (by omega) (by omega)
      refine bx_ref0 r0 a b (And.intro vi ?_)
      rw [nI_clamp (n := i) (by omega), l4 i i1]
      refine by_ll r0 hN i1 hK (And.intro ?_ IR)
      rw [py]
      refine bi_yl_lv (rc.2.2.2.2.2.1 i i1) (fun r => ?_)
      obtain ⟨e, e1, e2, e3⟩ := rc.2.2.2.2.2.2 i i1 r
      rw [e1, e2]
theorem i_vc_lineCount {k : Nat} {u : SX} {v : SY} (I : i_Rel k u v) (hk : k + 3 ≤ 1538) : wpX_lineCount (fun r => wpY_lineCount (fun r' => r' = r ∧ i_Rel (k + 3) u v) v) u := by
  refine bi_el (Q := fun u v => wpX_lineCount (fun r => wpY_lineCount (fun r' => r' = r ∧ i_Rel (k + 3) u v) v) u) ?_ I
  intro C D N f_paragraph f_lines f_resolved f_top f_overflowIsolates f_overflowEmbeddings f_validIsolates f_seqLen f_seqLevel f_runDir f_sos f_eos f_openCount a_text a_breakAfter a_partner a_level a_type a_prevKept a_nextKept a_implicit a_pair a_valid a_taken a_stackLevel a_stackOverride a_stackIsolate a_seq a_kind a_mate a_openAt a_wasMark a_lineFirst a_lineSlot a_lineLv a_order a_place g_para g_count g_e g_way g_sos g_eos b_pair b_res b_level b_over b_type b_first b_seq b_open hF hR
  have IR : i_Rel (k + 3) (nI C, nI D, nI N, f_paragraph, f_lines, f_resolved, f_top, f_overflowIsolates, f_overflowEmbeddings, f_validIsolates, f_seqLen, f_seqLevel, f_runDir, f_sos, f_eos, f_openCount, a_text, a_breakAfter, a_partner, a_level, a_type, a_prevKept, a_nextKept, a_implicit, a_pair, a_valid, a_taken, a_stackLevel, a_stackOverride, a_stackIsolate, a_seq, a_kind, a_mate, a_openAt, a_wasMark, a_lineFirst, a_lineSlot, a_lineLv, a_order, a_place) (nI C, nI D, nI N, g_para, g_count, g_e, g_way, g_sos, g_eos, f_resolved, a_text, a_breakAfter, b_pair, b_res, b_level, b_over, b_type, b_first, b_seq, b_open, a_stackLevel, a_stackOverride, a_stackIsolate) := bi_in hF hR
  have hN : N ≤ 32 := by have := hF.1; have := hF.2.2.2.1; omega
  have hK : ∀ j, a_breakAfter j = 0 ∨ a_breakAfter j = 1 := fun j => (hF.2.2.2.2.2.2.1 j).elim Or.inl (fun q => Or.inr q.1)
  by_cases r0 : f_resolved = 0
  · exact br_t r0 (br_t r0 (And.intro rfl IR))
  · obtain ⟨P, pa, py, rc, rl⟩ := hR (hF.2.2.2.2.2.2.2.resolve_left r0)
    obtain ⟨lv, l1, l2, l3, l4, l5, l6, l7⟩ := rl
    exact br_f r0 (by_lineCount r0 hN hK (And.intro l1.symm IR))
theorem i_vc_lineStart {k : Nat} {u : SX} {v : SY} (I : i_Rel k u v) (hk : k + 3 ≤ 1538) (v1 : Int32) : wpX_lineStart (fun r => wpY_lineStart (fun r' => r' = r ∧ i_Rel (k + 3) u v) v v1) u v1 := by
  refine bi_el (Q := fun u v => wpX_lineStart (fun r => wpY_lineStart (fun r' => r' = r ∧ i_Rel (k + 3) u v) v v1) u v1) ?_ I
  intro C D N f_paragraph f_lines f_resolved f_top f_overflowIsolates f_overflowEmbeddings f_validIsolates f_seqLen f_seqLevel f_runDir f_sos f_eos f_openCount a_text a_breakAfter a_partner a_level a_type a_prevKept a_nextKept a_implicit a_pair a_valid a_taken a_stackLevel a_stackOverride a_stackIsolate a_seq a_kind a_mate a_openAt a_wasMark a_lineFirst a_lineSlot a_lineLv a_order a_place g_para g_count g_e g_way g_sos g_eos b_pair b_res b_level b_over b_type b_first b_seq b_open hF hR
  have IR : i_Rel (k + 3) (nI C, nI D, nI N, f_paragraph, f_lines, f_resolved, f_top, f_overflowIsolates, f_overflowEmbeddings, f_validIsolates, f_seqLen, f_seqLevel, f_runDir, f_sos, f_eos, f_openCount, a_text, a_breakAfter, a_partner, a_level, a_type, a_prevKept, a_nextKept, a_implicit, a_pair, a_valid, a_taken, a_stackLevel, a_stackOverride, a_stackIsolate, a_seq, a_kind, a_mate, a_openAt, a_wasMark, a_lineFirst, a_lineSlot, a_lineLv, a_order, a_place) (nI C, nI D, nI N, g_para, g_count, g_e, g_way, g_sos, g_eos, f_resolved, a_text, a_breakAfter, b_pair, b_res, b_level, b_over, b_type, b_first, b_seq, b_open, a_stackLevel, a_stackOverride, a_stackIsolate) := bi_in hF hR
  have hN : N ≤ 32 := by have := hF.1; have := hF.2.2.2.1; omega
  have hK : ∀ j, a_breakAfter j = 0 ∨ a_breakAfter j = 1 := fun j => (hF.2.2.2.2.2.2.1 j).elim Or.inl (fun q => Or.inr q.1)
  unfold wpX_lineStart
  by_cases r0 : f_resolved = 0
  · refine bx_rl4 r0 ?_
    unfold wpY_lineStart
    exact by_lr4 r0 (Exists.intro 1 (br_f (by decide) (And.intro rfl IR)))
  · obtain ⟨P, pa, py, rc, rl⟩ := hR (hF.2.2.2.2.2.2.2.resolve_left r0)
    obtain ⟨lv, l1, l2, l3, l4, l5, l6, l7⟩ := rl
    subst l1
    by_cases bad : v1 < 0 ∨ ¬ v1 < nI (bi_ln a_breakAfter N + 1)
    · refine bx_rl5 r0 bad ?_
      unfold wpY_lineStart
      exact by_lr r0 hN hK (fun _ => Exists.intro 1 (br_f (by decide) (And.intro rfl IR))) (fun q1 q2 => absurd bad (fun w => w.elim q1 (fun w => w q2)))
    · have a : ¬ v1 < 0 := fun q => bad (Or.inl q)
      have b : v1 < nI (bi_ln a_breakAfter N + 1) := Classical.byContradiction (fun q => bad (Or.inr q))
      have hln := bi_ln_le a_breakAfter N
      obtain ⟨l, i1, rfl⟩ := bi_ix (by omega) a b
      have hKN : a_breakAfter (N - 1) = 0 := by
        rcases hF.2.2.2.2.2.2.1 (N - 1) with q | q
        · exact q
        · omega
      have hfs := bi_fs_lt rc.1 hKN (l := l) (by omega)
      have hfl := bi_fs_ln hfs
      have hlf := bi_ln_le a_breakAfter (bi_fs a_breakAfter N l)
      refine bx_rl0 r0 a b (And.intro (vp_in_nI (by omega) (by omega)) ?_)
      unfold wpY_lineStart
      rw [nI_clamp (n := l) (by omega), l2 l (by omega)]
      refine by_lr r0 hN hK (fun q => absurd q bad) (fun _ _ => Exists.intro 34 (by_lstart_loop hN hK (by omega) hfs hfl (fun i hi => ?_) (And.intro rfl IR) 34 0 (by omega) (by omega)))
      have := ((bi_fs_spec a_breakAfter l N).2 i (by omega)).mpr hi
      omega
theorem i_vc_toVisual {k : Nat} {u : SX} {v : SY} (I : i_Rel k u v) (hk : k + 3 ≤ 1538) (v1 : Int32) : wpX_toVisual (fun r => wpY_toVisual (fun r' => r' = r ∧ i_Rel (k + 3) u v) v v1) u v1 := by
  refine bi_el (Q := fun u v => wpX_toVisual (fun r => wpY_toVisual (fun r' => r' = r ∧ i_Rel (k + 3) u v) v v1) u v1) ?_ I
  intro C D N f_paragraph f_lines f_resolved f_top f_overflowIsolates f_overflowEmbeddings f_validIsolates f_seqLen f_seqLevel f_runDir f_sos f_eos f_openCount a_text a_breakAfter a_partner a_level a_type a_prevKept a_nextKept a_implicit a_pair a_valid a_taken a_stackLevel a_stackOverride a_stackIsolate a_seq a_kind a_mate a_openAt a_wasMark a_lineFirst a_lineSlot a_lineLv a_order a_place g_para g_count g_e g_way g_sos g_eos b_pair b_res b_level b_over b_type b_first b_seq b_open hF hR
  have IR : i_Rel (k + 3) (nI C, nI D, nI N, f_paragraph, f_lines, f_resolved, f_top, f_overflowIsolates, f_overflowEmbeddings, f_validIsolates, f_seqLen, f_seqLevel, f_runDir, f_sos, f_eos, f_openCount, a_text, a_breakAfter, a_partner, a_level, a_type, a_prevKept, a_nextKept, a_implicit, a_pair, a_valid, a_taken, a_stackLevel, a_stackOverride, a_stackIsolate, a_seq, a_kind, a_mate, a_openAt, a_wasMark, a_lineFirst, a_lineSlot, a_lineLv, a_order, a_place) (nI C, nI D, nI N, g_para, g_count, g_e, g_way, g_sos, g_eos, f_resolved, a_text, a_breakAfter, b_pair, b_res, b_level, b_over, b_type, b_first, b_seq, b_open, a_stackLevel, a_stackOverride, a_stackIsolate) := bi_in hF hR
  have hN : N ≤ 32 := by have := hF.1; have := hF.2.2.2.1; omega
  have hK : ∀ j, a_breakAfter j = 0 ∨ a_breakAfter j = 1 := fun j => (hF.2.2.2.2.2.2.1 j).elim Or.inl (fun q => Or.inr q.1)
  unfold wpX_toVisual
  by_cases r0 : f_resolved = 0
  · refine bx_ref4 r0 ?_
    unfold wpY_toVisual
    exact by_un4 r0 (br_f (by decide) (And.intro rfl IR))
  · by_cases bad : v1 < 0 ∨ ¬ v1 < nI N
    · refine bx_ref5 r0 bad ?_
      unfold wpY_toVisual
      exact by_un5 r0 bad (br_f (by decide) (And.intro rfl IR))
    · have a : ¬ v1 < 0 := fun q => bad (Or.inl q)
      have b : v1 < nI N := Classical.byContradiction (fun q => bad (Or.inr q))
      obtain ⟨i, i1, rfl⟩ := bi_ix (by omega) a b
      obtain ⟨P, pa, py, rc, rl⟩ := hR (hF.2.2.2.2.2.2.2.resolve_left r0)
      obtain ⟨lv, l1, l2, l3, l4, l5, l6, l7⟩ := rl
      have hD := hF.2.2.1
      have vi := vp_in_nI (n := i) (N := 32) (by omega) (by omega)
      refine bx_ref0 r0 a b (And.intro vi ?_)
      rw [nI_clamp (n := i) (by omega)]
      subst py
      refine by_vis (lv := lv) r0 hN i1 hK (fun j hj r => ?_) (fun r => And.intro ?_ IR) (fun r => And.intro (l7 i i1 r).symm IR)
      · have e := bi_yl_lv (T := a_text) (K := a_breakAfter) (N := N) (p := nI P) (im := a_implicit) (rs := b_res) (i := j) (rc.2.2.2.2.2.1 j hj) (fun r => by obtain ⟨e, e1, e2, e3⟩ := rc.2.2.2.2.2.2 j hj r; rw [e1, e2])
        rw [e]
        obtain ⟨w1, w2⟩ := l5 j hj r
        exact ⟨w1, by omega⟩
      · exact (bi_blk_vis (l6 (bi_ln a_breakAfter i) (bi_ln_mono _ (by omega))) i1 r rfl).symm
section
variable {f_cap f_depth f_size f_paragraph f_lines f_resolved f_top f_overflowIsolates f_overflowEmbeddings f_validIsolates f_seqLen f_seqLevel f_runDir f_sos f_eos f_openCount : Int32} {a_text a_breakAfter a_partner a_level a_type a_prevKept a_nextKept a_implicit a_pair a_valid a_taken a_stackLevel a_stackOverride a_stackIsolate a_seq a_kind a_mate a_openAt a_wasMark a_lineFirst a_lineSlot a_lineLv a_order a_place : Nat → Int32}
variable {g_cap g_depth g_len g_para g_count g_e g_way g_sos g_eos g_done : Int32} {b_text b_cut b_pair b_res b_level b_over b_type b_first b_seq b_open b_stLevel b_stOver b_stIso : Nat → Int32}
/-- toLogical gives one answer on both sides -/
theorem bi_tolog {C D N : Nat} (hF : bi_Fx C D N f_resolved a_text a_breakAfter) (hR : f_resolved = 1 → bi_Rs N D a_text a_breakAfter f_paragraph g_para f_lines a_partner a_valid a_pair a_implicit a_lineFirst a_lineSlot a_lineLv a_order a_place b_pair b_res b_over) (v1 v2 : Int32) :
    ∃ r : Int32, (∀ post : Int32 → Prop, post r → wpX_toLogical post (nI C, nI D, nI N, f_paragraph, f_lines, f_resolved, f_top, f_overflowIsolates, f_overflowEmbeddings, f_validIsolates, f_seqLen, f_seqLevel, f_runDir, f_sos, f_eos, f_openCount, a_text, a_breakAfter, a_partner, a_level, a_type, a_prevKept, a_nextKept, a_implicit, a_pair, a_valid, a_taken, a_stackLevel, a_stackOverride, a_stackIsolate, a_seq, a_kind, a_mate, a_openAt, a_wasMark, a_lineFirst, a_lineSlot, a_lineLv, a_order, a_place) v1 v2) ∧ (∀ post : Int32 → Prop, post r → wpY_toLogical post (nI C, nI D, nI N, g_para, g_count, g_e, g_way, g_sos, g_eos, f_resolved, a_text, a_breakAfter, b_pair, b_res, b_level, b_over, b_type, b_first, b_seq, b_open, a_stackLevel, a_stackOverride, a_stackIsolate) v1 v2) ∧ (¬ 0 ≤ r ∨ (¬ f_resolved = 0 ∧ ∃ f, f < N ∧ r = nI f ∧ ¬ bi_R (a_text f))) := by
  have hN : N ≤ 32 := by have := hF.1; have := hF.2.2.2.1; omega
  have hK : ∀ j, a_breakAfter j = 0 ∨ a_breakAfter j = 1 := fun j => (hF.2.2.2.2.2.2.1 j).elim Or.inl (fun q => Or.inr q.1)
  by_cases r0 : f_resolved = 0
  · refine ⟨-4, fun post k => ?_, fun post k => ?_, Or.inl (by decide)⟩
    · unfold wpX_toLogical; exact bx_rl4 r0 k
    · unfold wpY_toLogical; exact by_lr4 r0 (br_f (by decide) k)
  · obtain ⟨P, pa, py, rc, rl⟩ := hR (hF.2.2.2.2.2.2.2.resolve_left r0)
    obtain ⟨lv, l1, l2, l3, l4, l5, l6, l7⟩ := rl
    subst l1
    by_cases bad : v1 < 0 ∨ ¬ v1 < nI (bi_ln a_breakAfter N + 1)
    · refine ⟨-5, fun post k => ?_, fun post k => ?_, Or.inl (by decide)⟩
      · unfold wpX_toLogical; exact bx_rl5 r0 bad k
      · unfold wpY_toLogical; exact by_lr r0 hN hK (fun _ => br_f (by decide) k) (fun q1 q2 => absurd bad (fun w => w.elim q1 (fun w => w q2)))
    · have a : ¬ v1 < 0 := fun q => bad (Or.inl q)
      have b : v1 < nI (bi_ln a_breakAfter N + 1) := Classical.byContradiction (fun q => bad (Or.inr q))
      have hln := bi_ln_le a_breakAfter N
      obtain ⟨l, i1, rfl⟩ := bi_ix (by omega) a b
      have hD := hF.2.2.1
      have hKN : a_breakAfter (N - 1) = 0 := by
        rcases hF.2.2.2.2.2.2.1 (N - 1) with q | q
        · exact q
        · omega
      have hlN : bi_ln a_breakAfter N < N := by
        have h1 := bi_fs_lt rc.1 hKN (Nat.le_refl _)
        have h2 := bi_fs_ln h1
        have h3 := bi_ln_le a_breakAfter (bi_fs a_breakAfter N (bi_ln a_breakAfter N))
        omega
      have hrc := bi_rc_le a_text N
      have hm : bi_rc a_text (bi_fs a_breakAfter N l) ≤ bi_rc a_text (bi_fs a_breakAfter N (l + 1)) := by
        refine bi_rc_mono _ ?_
        have h1 := bi_fs_lt rc.1 hKN (l := l) (by omega)
        have h2 := bi_fs_ln h1
        exact Nat.le_of_lt (((bi_fs_spec a_breakAfter (l + 1) N).2 _ h1).mp (by omega))
      have hb : bi_rc a_text (bi_fs a_breakAfter N (l + 1)) ≤ bi_rc a_text N := bi_rc_mono _ (bi_fs_spec a_breakAfter (l + 1) N).1
      have hlv : ∀ j, j < N → ¬ bi_R (a_text j) → bi_yl a_text a_breakAfter N (nI P) b_res j = nI (lv j) ∧ lv j < 2 ^ 31 := by
        intro j hj r
        have e := bi_yl_lv (T := a_text) (K := a_breakAfter) (N := N) (p := nI P) (im := a_implicit) (rs := b_res) (i := j) (rc.2.2.2.2.2.1 j hj) (fun r => by obtain ⟨e, e1, e2, e3⟩ := rc.2.2.2.2.2.2 j hj r; rw [e1, e2])
        rw [e]
        obtain ⟨w1, w2⟩ := l5 j hj r
        exact ⟨w1, by omega⟩
      subst py
      have hblk := l6 l (by omega)
      have hX : ∀ post : Int32 → Prop, (v2 < 0 → post (-1)) → (∀ x, x < 2 ^ 31 → v2 = nI x → bi_rc a_text (bi_fs a_breakAfter N l) + x < bi_rc a_text (bi_fs a_breakAfter N (l + 1)) → post (a_order (bi_rc a_text (bi_fs a_breakAfter N l) + x))) → (∀ x, x < 2 ^ 31 → v2 = nI x → ¬ bi_rc a_text (bi_fs a_breakAfter N l) + x < bi_rc a_text (bi_fs a_breakAfter N (l + 1)) → post (-1)) → wpX_toLogical post (nI C, nI D, nI N, f_paragraph, nI (bi_ln a_breakAfter N + 1), f_resolved, f_top, f_overflowIsolates, f_overflowEmbeddings, f_validIsolates, f_seqLen, f_seqLevel, f_runDir, f_sos, f_eos, f_openCount, a_text, a_breakAfter, a_partner, a_level, a_type, a_prevKept, a_nextKept, a_implicit, a_pair, a_valid, a_taken, a_stackLevel, a_stackOverride, a_stackIsolate, a_seq, a_kind, a_mate, a_openAt, a_wasMark, a_lineFirst, a_lineSlot, a_lineLv, a_order, a_place) (nI l) v2 := by
        intro post k1 k2 k3
        unfold wpX_toLogical
        refine bx_rl0 r0 a b (And.intro (vp_in_nI (by omega) (by omega)) ?_)
        rw [nI_clamp (n := l) (by omega), l3 l (by omega)]
        refine nm_e (br_c (fun q => k1 q) (fun q => ?_))
        obtain ⟨x, x1, rfl⟩ := nI_of q
        rw [nI_1, nI_clamp (n := l + 1) (by omega), l3 (l + 1) (by omega), pk_sub hm, nI_add]
        refine And.intro (vp_in_nI (by omega) (by omega)) ?_
        by_cases w : bi_rc a_text (bi_fs a_breakAfter N l) + x < bi_rc a_text (bi_fs a_breakAfter N (l + 1))
        · refine br_t (nI_lt (by omega) (by omega)) (And.intro (vp_in_nI (by omega) (by omega)) ?_)
          rw [nI_clamp (n := bi_rc a_text (bi_fs a_breakAfter N l) + x) (by omega)]
          exact k2 x x1 rfl w
        · exact br_f (nI_nlt (by omega) x1) (k3 x x1 rfl w)
      have hY : ∀ (post : Int32 → Prop), (∃ n, wY_toLogical_15 post (nI l) v2 (nI C) (nI D) (nI N) (nI P) g_count g_e g_way g_sos g_eos f_resolved a_text a_breakAfter b_pair b_res b_level b_over b_type b_first b_seq b_open a_stackLevel a_stackOverride a_stackIsolate n 0) → wpY_toLogical post (nI C, nI D, nI N, nI P, g_count, g_e, g_way, g_sos, g_eos, f_resolved, a_text, a_breakAfter, b_pair, b_res, b_level, b_over, b_type, b_first, b_seq, b_open, a_stackLevel, a_stackOverride, a_stackIsolate) (nI l) v2 := by
        intro post k
        unfold wpY_toLogical
        exact by_lr r0 hN hK (fun q => absurd q bad) (fun _ _ => br_t rfl k)
      by_cases q : v2 < 0
      · refine ⟨-1, fun post k => hX post (fun _ => k) (fun x x1 e => ?_) (fun x x1 e => ?_), fun post k => hY post ⟨1, br_t q k⟩, Or.inl (by decide)⟩
        · rw [e] at q; exact absurd q (nI_pos x1)
        · rw [e] at q; exact absurd q (nI_pos x1)
      · obtain ⟨x, x1, rfl⟩ := nI_of q
        by_cases w : bi_rc a_text (bi_fs a_breakAfter N l) + x < bi_rc a_text (bi_fs a_breakAfter N (l + 1))
        · obtain ⟨f, f1, f2, f3, f4, f5, f6⟩ := bi_blk_log hblk w
          refine ⟨nI f, fun post k => hX post (fun z => absurd z q) (fun y y1 e h => ?_) (fun y y1 e h => ?_), fun post k => hY post ⟨34, by_tolog_loop (lv := lv) (some f) r0 hN hK (by omega) x1 hlv (fun g eg => by cases eg; exact ⟨f2, f3, f4, f5⟩) (fun i hi hlt hc => ?_) k 34 0 (by omega) (fun g eg => by omega) (by omega)⟩, Or.inr ⟨r0, f, f2, rfl, f4⟩⟩
          · have : y = x := ((nI_eq y1 x1).mp e.symm)
            rw [this, f1]; exact k
          · have : y = x := ((nI_eq y1 x1).mp e.symm)
            rw [this] at h; exact absurd w h
          · have := f6 i hi hc.1 hc.2.1 hc.2.2
            have := hlt f rfl
            omega
        · refine ⟨-1, fun post k => hX post (fun z => absurd z q) (fun y y1 e h => ?_) (fun y y1 e h => k), fun post k => hY post ⟨34, by_tolog_loop (lv := lv) none r0 hN hK (by omega) x1 hlv (fun g eg => by cases eg) (fun i hi hlt => bi_blk_none hblk w i hi) k 34 0 (by omega) (fun g eg => by cases eg) (by omega)⟩, Or.inl (by decide)⟩
          have : y = x := ((nI_eq y1 x1).mp e.symm)
          rw [this] at h; exact absurd h w
end
theorem i_vc_toLogical {k : Nat} {u : SX} {v : SY} (I : i_Rel k u v) (hk : k + 3 ≤ 1538) (v1 : Int32) (v2 : Int32) : wpX_toLogical (fun r => wpY_toLogical (fun r' => r' = r ∧ i_Rel (k + 3) u v) v v1 v2) u v1 v2 := by
  refine bi_el (Q := fun u v => wpX_toLogical (fun r => wpY_toLogical (fun r' => r' = r ∧ i_Rel (k + 3) u v) v v1 v2) u v1 v2) ?_ I
  intro C D N f_paragraph f_lines f_resolved f_top f_overflowIsolates f_overflowEmbeddings f_validIsolates f_seqLen f_seqLevel f_runDir f_sos f_eos f_openCount a_text a_breakAfter a_partner a_level a_type a_prevKept a_nextKept a_implicit a_pair a_valid a_taken a_stackLevel a_stackOverride a_stackIsolate a_seq a_kind a_mate a_openAt a_wasMark a_lineFirst a_lineSlot a_lineLv a_order a_place g_para g_count g_e g_way g_sos g_eos b_pair b_res b_level b_over b_type b_first b_seq b_open hF hR
  have IR : i_Rel (k + 3) (nI C, nI D, nI N, f_paragraph, f_lines, f_resolved, f_top, f_overflowIsolates, f_overflowEmbeddings, f_validIsolates, f_seqLen, f_seqLevel, f_runDir, f_sos, f_eos, f_openCount, a_text, a_breakAfter, a_partner, a_level, a_type, a_prevKept, a_nextKept, a_implicit, a_pair, a_valid, a_taken, a_stackLevel, a_stackOverride, a_stackIsolate, a_seq, a_kind, a_mate, a_openAt, a_wasMark, a_lineFirst, a_lineSlot, a_lineLv, a_order, a_place) (nI C, nI D, nI N, g_para, g_count, g_e, g_way, g_sos, g_eos, f_resolved, a_text, a_breakAfter, b_pair, b_res, b_level, b_over, b_type, b_first, b_seq, b_open, a_stackLevel, a_stackOverride, a_stackIsolate) := bi_in hF hR
  obtain ⟨r, hx, hy, _⟩ := bi_tolog (f_paragraph := f_paragraph) (f_lines := f_lines) (f_resolved := f_resolved) (f_top := f_top) (f_overflowIsolates := f_overflowIsolates) (f_overflowEmbeddings := f_overflowEmbeddings) (f_validIsolates := f_validIsolates) (f_seqLen := f_seqLen) (f_seqLevel := f_seqLevel) (f_runDir := f_runDir) (f_sos := f_sos) (f_eos := f_eos) (f_openCount := f_openCount) (a_text := a_text) (a_breakAfter := a_breakAfter) (a_partner := a_partner) (a_level := a_level) (a_type := a_type) (a_prevKept := a_prevKept) (a_nextKept := a_nextKept) (a_implicit := a_implicit) (a_pair := a_pair) (a_valid := a_valid) (a_taken := a_taken) (a_stackLevel := a_stackLevel) (a_stackOverride := a_stackOverride) (a_stackIsolate := a_stackIsolate) (a_seq := a_seq) (a_kind := a_kind) (a_mate := a_mate) (a_openAt := a_openAt) (a_wasMark := a_wasMark) (a_lineFirst := a_lineFirst) (a_lineSlot := a_lineSlot) (a_lineLv := a_lineLv) (a_order := a_order) (a_place := a_place) (g_para := g_para) (g_count := g_count) (g_e := g_e) (g_way := g_way) (g_sos := g_sos) (g_eos := g_eos) (b_pair := b_pair) (b_res := b_res) (b_level := b_level) (b_over := b_over) (b_type := b_type) (b_first := b_first) (b_seq := b_seq) (b_open := b_open) hF hR v1 v2
  exact hx _ (hy _ (And.intro rfl IR))
theorem i_vc_glyphAt {k : Nat} {u : SX} {v : SY} (I : i_Rel k u v) (hk : k + 3 ≤ 1538) (v1 : Int32) (v2 : Int32) : wpX_glyphAt (fun r => wpY_glyphAt (fun r' => r' = r ∧ i_Rel (k + 3) u v) v v1 v2) u v1 v2 := by
  refine bi_el (Q := fun u v => wpX_glyphAt (fun r => wpY_glyphAt (fun r' => r' = r ∧ i_Rel (k + 3) u v) v v1 v2) u v1 v2) ?_ I
  intro C D N f_paragraph f_lines f_resolved f_top f_overflowIsolates f_overflowEmbeddings f_validIsolates f_seqLen f_seqLevel f_runDir f_sos f_eos f_openCount a_text a_breakAfter a_partner a_level a_type a_prevKept a_nextKept a_implicit a_pair a_valid a_taken a_stackLevel a_stackOverride a_stackIsolate a_seq a_kind a_mate a_openAt a_wasMark a_lineFirst a_lineSlot a_lineLv a_order a_place g_para g_count g_e g_way g_sos g_eos b_pair b_res b_level b_over b_type b_first b_seq b_open hF hR
  have IR : i_Rel (k + 3) (nI C, nI D, nI N, f_paragraph, f_lines, f_resolved, f_top, f_overflowIsolates, f_overflowEmbeddings, f_validIsolates, f_seqLen, f_seqLevel, f_runDir, f_sos, f_eos, f_openCount, a_text, a_breakAfter, a_partner, a_level, a_type, a_prevKept, a_nextKept, a_implicit, a_pair, a_valid, a_taken, a_stackLevel, a_stackOverride, a_stackIsolate, a_seq, a_kind, a_mate, a_openAt, a_wasMark, a_lineFirst, a_lineSlot, a_lineLv, a_order, a_place) (nI C, nI D, nI N, g_para, g_count, g_e, g_way, g_sos, g_eos, f_resolved, a_text, a_breakAfter, b_pair, b_res, b_level, b_over, b_type, b_first, b_seq, b_open, a_stackLevel, a_stackOverride, a_stackIsolate) := bi_in hF hR
  have hN : N ≤ 32 := by have := hF.1; have := hF.2.2.2.1; omega
  have hK : ∀ j, a_breakAfter j = 0 ∨ a_breakAfter j = 1 := fun j => (hF.2.2.2.2.2.2.1 j).elim Or.inl (fun q => Or.inr q.1)
  obtain ⟨r, hx, hy, hr⟩ := bi_tolog (f_paragraph := f_paragraph) (f_lines := f_lines) (f_resolved := f_resolved) (f_top := f_top) (f_overflowIsolates := f_overflowIsolates) (f_overflowEmbeddings := f_overflowEmbeddings) (f_validIsolates := f_validIsolates) (f_seqLen := f_seqLen) (f_seqLevel := f_seqLevel) (f_runDir := f_runDir) (f_sos := f_sos) (f_eos := f_eos) (f_openCount := f_openCount) (a_text := a_text) (a_breakAfter := a_breakAfter) (a_partner := a_partner) (a_level := a_level) (a_type := a_type) (a_prevKept := a_prevKept) (a_nextKept := a_nextKept) (a_implicit := a_implicit) (a_pair := a_pair) (a_valid := a_valid) (a_taken := a_taken) (a_stackLevel := a_stackLevel) (a_stackOverride := a_stackOverride) (a_stackIsolate := a_stackIsolate) (a_seq := a_seq) (a_kind := a_kind) (a_mate := a_mate) (a_openAt := a_openAt) (a_wasMark := a_wasMark) (a_lineFirst := a_lineFirst) (a_lineSlot := a_lineSlot) (a_lineLv := a_lineLv) (a_order := a_order) (a_place := a_place) (g_para := g_para) (g_count := g_count) (g_e := g_e) (g_way := g_way) (g_sos := g_sos) (g_eos := g_eos) (b_pair := b_pair) (b_res := b_res) (b_level := b_level) (b_over := b_over) (b_type := b_type) (b_first := b_first) (b_seq := b_seq) (b_open := b_open) hF hR v1 v2
  unfold wpX_glyphAt
  refine hx _ ?_
  by_cases z : 0 ≤ r
  · obtain ⟨r0, f, f1, rfl, f2⟩ := hr.resolve_left (fun q => q z)
    obtain ⟨P, pa, py, rc, rl⟩ := hR (hF.2.2.2.2.2.2.2.resolve_left r0)
    obtain ⟨lv, l1, l2, l3, l4, l5, l6, l7⟩ := rl
    obtain ⟨w1, w2⟩ := l5 f f1 f2
    have hD := hF.2.2.1
    have hT := hF.2.2.2.2.1 f f1
    have vf := vp_in_nI (n := f) (N := 32) (by omega) (by omega)
    have ell : a_lineLv f = nI (lv f) := by rw [l4 f f1]; exact w1
    have ey : bi_yl a_text a_breakAfter N g_para b_res f = nI (lv f) := by
      rw [py, bi_yl_lv (rc.2.2.2.2.2.1 f f1) (fun r => by obtain ⟨e, e1, e2, e3⟩ := rc.2.2.2.2.2.2 f f1 r; rw [e1, e2])]
      exact w1
    refine br_t z (And.intro vf ?_)
    rw [nI_clamp (n := f) (by omega), ell]
    have ycont : ∀ Q : Int32 → Prop, (a_text f ≤ 22 → Q (a_text f)) → (¬ a_text f ≤ 22 → nI (lv f) &&& 1 = 0 → Q (a_text f)) → (¬ a_text f ≤ 22 → ¬ nI (lv f) &&& 1 = 0 → a_text f &&& 1 = 1 → Q (a_text f + 1)) → (¬ a_text f ≤ 22 → ¬ nI (lv f) &&& 1 = 0 → ¬ a_text f &&& 1 = 1 → Q (a_text f - 1)) → wpY_glyphAt Q (nI C, nI D, nI N, g_para, g_count, g_e, g_way, g_sos, g_eos, f_resolved, a_text, a_breakAfter, b_pair, b_res, b_level, b_over, b_type, b_first, b_seq, b_open, a_stackLevel, a_stackOverride, a_stackIsolate) v1 v2 := by
      intro Q q1 q2 q3 q4
      unfold wpY_glyphAt
      refine hy _ (br_t z (And.intro vf ?_))
      rw [nI_clamp (n := f) (by omega)]
      refine br_c (fun t => And.intro vf (q1 (bi_lt23.mp t))) (fun t => by_ll r0 hN f1 hK ?_)
      have t' : ¬ a_text f ≤ 22 := fun q => t (bi_lt23.mpr q)
      rw [ey, bi_rem2 (nI_pos (by omega)), bi_rem2 hT]
      exact And.intro (by decide) (br_c (fun s => And.intro vf (q2 t' s)) (fun s => And.intro vf (And.intro (by decide) (br_c (fun o => And.intro vf (q3 t' s o)) (fun o => And.intro vf (q4 t' s o))))))
    refine br_c (fun t => And.intro vf ?_) (fun t => And.intro vf (br_c (fun s => And.intro vf ?_) (fun s => And.intro vf (br_c (fun o => And.intro vf ?_) (fun o => And.intro vf ?_)))))
    · exact ycont _ (fun _ => And.intro rfl IR) (fun q => absurd t q) (fun q => absurd t q) (fun q => absurd t q)
    · exact ycont _ (fun q => absurd q t) (fun _ _ => And.intro rfl IR) (fun _ q => absurd s q) (fun _ q => absurd s q)
    · exact ycont _ (fun q => absurd q t) (fun _ q => absurd q s) (fun _ _ _ => And.intro rfl IR) (fun _ _ q => absurd o q)
    · exact ycont _ (fun q => absurd q t) (fun _ q => absurd q s) (fun _ _ q => absurd q o) (fun _ _ _ => And.intro rfl IR)
  · refine br_f z ?_
    unfold wpY_glyphAt
    exact hy _ (br_f z (And.intro rfl IR))
theorem i_vc_isolateMatch {k : Nat} {u : SX} {v : SY} (I : i_Rel k u v) (hk : k + 3 ≤ 1538) (v1 : Int32) : wpX_isolateMatch (fun r => wpY_isolateMatch (fun r' => r' = r ∧ i_Rel (k + 3) u v) v v1) u v1 := by
  refine bi_el (Q := fun u v => wpX_isolateMatch (fun r => wpY_isolateMatch (fun r' => r' = r ∧ i_Rel (k + 3) u v) v v1) u v1) ?_ I
  intro C D N f_paragraph f_lines f_resolved f_top f_overflowIsolates f_overflowEmbeddings f_validIsolates f_seqLen f_seqLevel f_runDir f_sos f_eos f_openCount a_text a_breakAfter a_partner a_level a_type a_prevKept a_nextKept a_implicit a_pair a_valid a_taken a_stackLevel a_stackOverride a_stackIsolate a_seq a_kind a_mate a_openAt a_wasMark a_lineFirst a_lineSlot a_lineLv a_order a_place g_para g_count g_e g_way g_sos g_eos b_pair b_res b_level b_over b_type b_first b_seq b_open hF hR
  have IR : i_Rel (k + 3) (nI C, nI D, nI N, f_paragraph, f_lines, f_resolved, f_top, f_overflowIsolates, f_overflowEmbeddings, f_validIsolates, f_seqLen, f_seqLevel, f_runDir, f_sos, f_eos, f_openCount, a_text, a_breakAfter, a_partner, a_level, a_type, a_prevKept, a_nextKept, a_implicit, a_pair, a_valid, a_taken, a_stackLevel, a_stackOverride, a_stackIsolate, a_seq, a_kind, a_mate, a_openAt, a_wasMark, a_lineFirst, a_lineSlot, a_lineLv, a_order, a_place) (nI C, nI D, nI N, g_para, g_count, g_e, g_way, g_sos, g_eos, f_resolved, a_text, a_breakAfter, b_pair, b_res, b_level, b_over, b_type, b_first, b_seq, b_open, a_stackLevel, a_stackOverride, a_stackIsolate) := bi_in hF hR
  have hN : N ≤ 32 := by have := hF.1; have := hF.2.2.2.1; omega
  unfold wpX_isolateMatch
  by_cases r0 : f_resolved = 0
  · refine bx_ref4 r0 ?_
    unfold wpY_isolateMatch
    exact by_rf4 r0 (br_f (by decide) (And.intro rfl IR))
  · by_cases bad : v1 < 0 ∨ ¬ v1 < nI N
    · refine bx_ref5 r0 bad ?_
      unfold wpY_isolateMatch
      exact by_rf5 r0 bad (br_f (by decide) (And.intro rfl IR))
    · have a : ¬ v1 < 0 := fun q => bad (Or.inl q)
      have b : v1 < nI N := Classical.byContradiction (fun q => bad (Or.inr q))
      obtain ⟨i, i1, rfl⟩ := bi_ix (by omega) a b
      obtain ⟨P, pa, py, rc, rl⟩ := hR (hF.2.2.2.2.2.2.2.resolve_left r0)
      have hp := rc.2.2.1
      have hV := rc.2.2.2.1
      have vi := vp_in_nI (n := i) (N := 32) (by omega) (by omega)
      -- the reference, by what its text and marks say
      have ycont : ∀ Q : Int32 → Prop, (¬ bi_I (a_text i) → ¬ a_text i = 22 → Q (-1)) → ((bi_I (a_text i) ∨ a_text i = 22) → wY_isolateMatch_38 Q (nI i) (nI C) (nI D) (nI N) g_para g_count g_e g_way g_sos g_eos f_resolved a_text a_breakAfter b_pair b_res b_level b_over b_type b_first b_seq b_open a_stackLevel a_stackOverride a_stackIsolate) → wpY_isolateMatch Q (nI C, nI D, nI N, g_para, g_count, g_e, g_way, g_sos, g_eos, f_resolved, a_text, a_breakAfter, b_pair, b_res, b_level, b_over, b_type, b_first, b_seq, b_open, a_stackLevel, a_stackOverride, a_stackIsolate) (nI i) := by
        intro Q q1 q2
        unfold wpY_isolateMatch
        refine by_refusal r0 hN i1 (br_t rfl (And.intro vi ?_))
        rw [nI_clamp (n := i) (by omega)]
        refine by_ifI (fun c => And.intro vi (br_c (fun t => q2 (Or.inr t)) (fun t => q1 c t))) (fun c => q2 (Or.inl c))
      have y75 : ∀ (Q : Int32 → Prop) (o : Option Nat), (∀ m, o = some m → m < N) → (o = none → Q (-2)) → (∀ m, o = some m → b_over m = 1 → Q (-3)) → (∀ m, o = some m → ¬ b_over m = 1 → Q (nI m)) → wY_isolateMatch_75 Q (bi_o o) (nI C) (nI D) (nI N) g_para g_count g_e g_way g_sos g_eos f_resolved a_text a_breakAfter b_pair b_res b_level b_over b_type b_first b_seq b_open a_stackLevel a_stackOverride a_stackIsolate := by
        intro Q o h0 h1 h2 h3
        unfold wY_isolateMatch_75
        refine bi_o_le (fun m hm => by have := h0 m hm; omega) (fun e => h1 e) (fun m e => ?_)
        have := h0 m e
        subst e
        rw [bi_oS, nI_clamp (n := m) (by omega)]
        exact And.intro (vp_in_nI (by omega) (by omega)) (br_c (fun q => h2 m rfl q) (fun q => h3 m rfl q))
      refine bx_ref0 r0 a b (And.intro vi ?_)
      rw [nI_clamp (n := i) (by omega)]
      refine bx_isI (fun c => br_t rfl (And.intro vi (br_c (fun t => ?_) (fun t => ?_)))) (fun c => br_f (by decide) ?_)
      · -- a PDI
        have pd := (hp i i1).2.1 t
        have ov : ¬ b_over i = 1 := by
          rcases hV.1 i i1 with ⟨w, _, _⟩ | ⟨_, w, _⟩
          · rw [w]; decide
          · exact absurd w c
        have go : ∀ o : Option Nat, (∀ g, o = some g → g < i ∧ bi_I (a_text g) ∧ bi_cl a_text N g = some i) → (∀ j, j < i → bi_I (a_text j) → bi_cl a_text N j = some i → o = some j) → ∀ Q : Int32 → Prop, (o = none → Q (-2)) → (∀ m, o = some m → b_over m = 1 → Q (-3)) → (∀ m, o = some m → ¬ b_over m = 1 → Q (nI m)) → wpY_isolateMatch Q (nI C, nI D, nI N, g_para, g_count, g_e, g_way, g_sos, g_eos, f_resolved, a_text, a_breakAfter, b_pair, b_res, b_level, b_over, b_type, b_first, b_seq, b_open, a_stackLevel, a_stackOverride, a_stackIsolate) (nI i) := by
          intro o o1 o2 Q h1 h2 h3
          refine ycont Q (fun _ q => absurd t q) (fun _ => ?_)
          unfold wY_isolateMatch_38
          rw [nI_clamp (n := i) (by omega)]
          exact And.intro vi (br_f ov (And.intro vi (br_t t (by_opener hN i1 o1 o2 (y75 Q o (fun m hm => by have := (o1 m hm).1; omega) h1 h2 h3)))))
        unfold wX_isolateMatch_42
        refine br_t rfl ?_
        unfold wX_isolateMatch_58
        rw [nI_clamp (n := i) (by omega)]
        refine And.intro vi ?_
        rcases pd with ⟨o, o1, o2, o3, o4, o5⟩ | ⟨o1, o2⟩
        · have gg := go (some o) (fun g e => by cases e; exact ⟨o1, o3, o4⟩) (fun j j1 j2 j3 => by rw [o5 j j1 j2 j3])
          rw [o2, nI_clamp (n := o) (by omega)]
          have hvo : (b_over o = 0 ∧ a_valid o = 1) ∨ (b_over o = 1 ∧ a_valid o = 0) := by
            rcases hV.1 o (by omega) with ⟨w1, w2, _⟩ | ⟨w1, _, w3⟩
            · exact Or.inl ⟨w1, w2 o3⟩
            · exact Or.inr ⟨w1, w3⟩
          refine br_t (nI_pos' (by omega)) (br_t rfl (And.intro vi (And.intro (vp_in_nI (by omega) (by omega)) (br_c (fun q => ?_) (fun q => And.intro vi ?_)))))
          · rcases hvo with w | w
            · rw [w.2] at q; exact absurd q (by decide)
            · exact gg _ (fun e => by cases e) (fun m e _ => And.intro rfl IR) (fun m e n1 => by cases e; exact absurd w.1 n1)
          · rcases hvo with w | w
            · exact gg _ (fun e => by cases e) (fun m e n1 => by cases e; rw [w.1] at n1; exact absurd n1 (by decide)) (fun m e _ => by cases e; exact And.intro rfl IR)
            · exact absurd w.2 q
        · have gg := go none (fun g e => by cases e) (fun j j1 j2 j3 => absurd j3 (o2 j j1 j2))
          rw [o1]
          exact br_f (by decide) (gg _ (fun _ => And.intro rfl IR) (fun m e => by cases e) (fun m e => by cases e))
      · exact ycont _ (fun _ _ => And.intro rfl IR) (fun q => absurd q (fun q => q.elim c t))
      · -- an initiator
        have t : ¬ a_text i = 22 := fun q => bi_I22 q c
        unfold wX_isolateMatch_42
        refine br_f (by decide) (And.intro vi ?_)
        rw [nI_clamp (n := i) (by omega)]
        rcases hV.1 i i1 with ⟨w1, w2, _⟩ | ⟨w1, _, w3⟩
        · refine br_f (by rw [w2 c]; decide) ?_
          have go : ∀ Q : Int32 → Prop, (bi_cl a_text N i = none → Q (-2)) → (∀ m, bi_cl a_text N i = some m → Q (nI m)) → wpY_isolateMatch Q (nI C, nI D, nI N, g_para, g_count, g_e, g_way, g_sos, g_eos, f_resolved, a_text, a_breakAfter, b_pair, b_res, b_level, b_over, b_type, b_first, b_seq, b_open, a_stackLevel, a_stackOverride, a_stackIsolate) (nI i) := by
            intro Q h1 h2
            refine ycont Q (fun q => absurd c q) (fun _ => ?_)
            unfold wY_isolateMatch_38
            rw [nI_clamp (n := i) (by omega)]
            refine And.intro vi (br_f (by rw [w1]; decide) (And.intro vi (br_f t (by_closer hN i1 (y75 Q _ (fun m hm => (bi_cl_val hm).2.1) h1 (fun m hm n1 => ?_) (fun m hm _ => h2 m hm))))))
            obtain ⟨_, m1, m2⟩ := bi_cl_val hm
            rcases hV.1 m m1 with ⟨x1, _, _⟩ | ⟨_, x2, _⟩
            · rw [x1] at n1; exact absurd n1 (by decide)
            · exact absurd x2 (bi_I22 m2)
          unfold wX_isolateMatch_58
          rw [nI_clamp (n := i) (by omega), (hp i i1).1 c]
          refine And.intro vi (bi_o_le (bi_cl_lt hN) (fun e => go _ (fun _ => And.intro rfl IR) (fun m hm => by rw [e] at hm; cases hm)) (fun m e => br_f (by decide) (And.intro vi ?_)))
          rw [e]
          exact go _ (fun q => by rw [e] at q; cases q) (fun m' hm => by rw [e] at hm; cases hm; exact And.intro rfl IR)
        · refine br_t w3 (ycont _ (fun q => absurd c q) (fun _ => ?_))
          unfold wY_isolateMatch_38
          rw [nI_clamp (n := i) (by omega)]
          exact And.intro vi (br_t w1 (And.intro rfl IR))
end
