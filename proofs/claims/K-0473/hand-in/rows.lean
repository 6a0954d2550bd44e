section
/-! rows of kit/rows, pasted -/
theorem pk_us {f : Nat → Int32} {k : Nat} {x : Int32} : upd f k x k = x := if_pos rfl
theorem pk_un {f : Nat → Int32} {k j : Nat} {x : Int32} (h : j ≠ k) : upd f k x j = f j := if_neg h
theorem pk_m1 (n : Nat) : nI (n + 1) + (-1) = nI n := by
  rw [← nI_1, Int32.add_assoc, show (1 : Int32) + (-1) = 0 from rfl, Int32.add_zero]
theorem pk_mul (a b : Nat) : nI a * nI b = nI (a * b) := (Int32.ofNat_mul a b).symm
theorem pk_tn {n : Nat} (h : n < 2 ^ 32) : (nI n).toBitVec.toNat = n := Nat.mod_eq_of_lt h
theorem pk_and (x : Int32) {m : Int32} (k : Nat) (hm : m.toBitVec.toNat = 2 ^ k - 1) : x &&& m = nI (x.toBitVec.toNat % 2 ^ k) := by
  apply Int32.toBitVec_inj.mp
  apply BitVec.eq_of_toNat_eq
  rw [Int32.toBitVec_and, BitVec.toNat_and, hm, Nat.and_two_pow_sub_one_eq_mod]
  show _ = (BitVec.ofNat 32 _).toNat
  rw [BitVec.toNat_ofNat]
  exact (Nat.mod_eq_of_lt (Nat.lt_of_le_of_lt (Nat.mod_le _ _) x.toBitVec.isLt)).symm
theorem pk_andN {n : Nat} (h : n < 2 ^ 32) {m : Int32} (k : Nat) (hm : m.toBitVec.toNat = 2 ^ k - 1) : nI n &&& m = nI (n % 2 ^ k) := by
  rw [pk_and _ k hm, pk_tn h]
theorem pk_shl (a s : Int32) (k : Nat) (hs : (s.toBitVec.smod 32).toNat = k) : (a <<< s).toBitVec.toNat = a.toBitVec.toNat * 2 ^ k % 2 ^ 32 := by
  show (a.toBitVec <<< (s.toBitVec.smod 32).toNat).toNat = _
  rw [hs, BitVec.toNat_shiftLeft, Nat.shiftLeft_eq]
theorem pk_shlN {n : Nat} (s : Int32) (k : Nat) (hs : (s.toBitVec.smod 32).toNat = k) (h : n * 2 ^ k < 2 ^ 32) : nI n <<< s = nI (n * 2 ^ k) := by
  apply Int32.toBitVec_inj.mp
  apply BitVec.eq_of_toNat_eq
  have hn : n < 2 ^ 32 := Nat.lt_of_le_of_lt (Nat.le_mul_of_pos_right n (Nat.two_pow_pos k)) h
  rw [pk_shl _ _ k hs, pk_tn hn, pk_tn h, Nat.mod_eq_of_lt h]
theorem pk_shr (a s : Int32) (k : Nat) (hs : (s.toBitVec.smod 32).toNat = k) : (a >>> s).toInt = a.toInt >>> k := by
  show (a.toBitVec.sshiftRight (s.toBitVec.smod 32).toNat).toInt = _
  rw [hs, BitVec.toInt_sshiftRight]
  rfl
theorem pk_shrN {n : Nat} (h : n < 2 ^ 31) (s : Int32) (k : Nat) (hs : (s.toBitVec.smod 32).toNat = k) : nI n >>> s = nI (n / 2 ^ k) := by
  apply Int32.toInt_inj.mp
  have h2 : n / 2 ^ k ≤ n := Nat.div_le_self _ _
  rw [pk_shr _ _ k hs, nI_toInt h, nI_toInt (by omega), Int.shiftRight_eq_div_pow]
  rfl
theorem pk_ns (z : Int32) : narrow .short (.int z.toInt16.toInt32) = .int z.toInt16.toInt32 := congrArg Value.int (by simp)
theorem pk_fs (r : Int32) : fits .short (.int r.toInt16.toInt32) = true := by
  have ⟨a, b⟩ := lg_i2s_range r
  have h1 : (-32768 : Int32).toInt = -32768 := by decide
  have h2 : (32767 : Int32).toInt = 32767 := by decide
  simp only [fits, Bool.and_eq_true, decide_eq_true_eq, Int32.le_iff_toInt_le, h1, h2]
  omega
theorem pk_charN {q : Nat} (hq : q < 65536) : narrow .char (.int (nI q)) = .int (nI q) ∧ fits .char (.int (nI q)) = true := by
  constructor
  · have e : (nI q).toUInt32.toUInt16.toUInt32.toInt32 = nI q := by
      apply Int32.toBitVec_inj.mp
      apply BitVec.eq_of_toNat_eq
      show (nI q).toUInt32.toUInt16.toUInt32.toNat = q % 2 ^ 32
      rw [UInt16.toNat_toUInt32, UInt32.toNat_toUInt16, show (nI q).toUInt32.toNat = q % 2 ^ 32 from rfl]
      omega
    exact congrArg Value.int e
  · have a : (0 : Int32) ≤ nI q := nI_pos' (by omega)
    have b : nI q ≤ 65535 := nI_le (b := 65535) (by omega) (by decide)
    show (decide ((0 : Int32) ≤ nI q) && decide (nI q ≤ 65535)) = true
    rw [decide_eq_true a, decide_eq_true b]
    rfl
theorem pk_char (x : Int32) : (x.toUInt32 % 65536).toInt32 = nI (x.toBitVec.toNat % 65536) := by
  apply Int32.toBitVec_inj.mp
  apply BitVec.eq_of_toNat_eq
  rw [pk_tn (by omega)]
  show (x.toUInt32 % 65536).toNat = _
  rw [UInt32.toNat_mod]
  rfl
theorem pk_nc (x : Int32) : narrow .char (.int (x.toUInt32 % 65536).toInt32) = .int (x.toUInt32 % 65536).toInt32 := by
  rw [pk_char]
  exact (pk_charN (Nat.mod_lt _ (by decide))).1
theorem pk_vs (z : Int32) : vp_nar .short z.toInt16.toInt32 = z.toInt16.toInt32 := by rw [vp_nar_short]; simp
theorem pk_vc (z : Int32) : vp_nar .char (z.toUInt32 % 65536).toInt32 = (z.toUInt32 % 65536).toInt32 := Value.int.inj (pk_nc z)
theorem s_l : ∀ n, n < 32 → ((nI n &&& 31).toBitVec.smod 32).toNat = n := by decide +kernel
theorem nx_xor (a b : Nat) : nI a ^^^ nI b = nI (a ^^^ b) := by
  apply Int32.toBitVec_inj.1
  show BitVec.ofNat 32 a ^^^ BitVec.ofNat 32 b = BitVec.ofNat 32 (a ^^^ b)
  apply BitVec.eq_of_getLsbD_eq
  intro i hi
  simp [hi]
end
section
/-! ===== the tree by heap numbers: root 1, children of h: 2 * h, 2 * h + 1, leaf of key k: 256 + k ===== -/
def tr_P (G : Nat → Nat) (h : Nat) : Prop := h = 1 ∨ G h ≠ 0
def tr_up (G : Nat → Nat) (c v : Nat) : Nat → Nat := fun h => if h = c then v else G h
theorem tr_us {G : Nat → Nat} {c v : Nat} : tr_up G c v c = v := if_pos rfl
theorem tr_un {G : Nat → Nat} {c v j : Nat} (h : j ≠ c) : tr_up G c v j = G j := if_neg h
/-- how many h below n have an address -/
def tr_cn (G : Nat → Nat) : Nat → Nat
  | 0 => 0
  | n + 1 => tr_cn G n + (if G n = 0 then 0 else 1)
theorem tr_cn_s (G : Nat → Nat) (n : Nat) : tr_cn G (n + 1) = tr_cn G n + (if G n = 0 then 0 else 1) := rfl
theorem tr_cn_up {G : Nat → Nat} {c v : Nat} (h0 : G c = 0) (hv : v ≠ 0) (n : Nat) : tr_cn (tr_up G c v) n = tr_cn G n + (if c < n then 1 else 0) := by
  induction n with
  | zero => rw [if_neg (Nat.not_lt_zero c)]; rfl
  | succ n ih =>
    rw [tr_cn_s, tr_cn_s, ih]
    by_cases e : n = c
    · rw [e, tr_us, if_neg hv, if_pos h0, if_neg (Nat.lt_irrefl c), if_pos (Nat.lt_succ_self c)]
    · rw [tr_un e]
      by_cases l : c < n
      · rw [if_pos l, if_pos (show c < n + 1 by omega)]; omega
      · rw [if_neg l, if_neg (show ¬ c < n + 1 by omega)]; omega
theorem tr_cn_le {G : Nat → Nat} (h0 : G 0 = 0) (h1 : G 1 = 0) (n : Nat) : tr_cn G (n + 2) ≤ n := by
  induction n with
  | zero =>
    rw [tr_cn_s, tr_cn_s, if_pos h0, if_pos h1]
    exact Nat.le_refl 0
  | succ n ih =>
    rw [tr_cn_s]
    by_cases z : G (n + 2) = 0
    · rw [if_pos z]; omega
    · rw [if_neg z]; omega
/-- the links: G is the address of each prefix -/
def tr_T (G : Nat → Nat) (us : Nat) (ch : Nat → Int32) : Prop :=
  (G 0 = 0 ∧ G 1 = 0) ∧ (∀ h, 512 ≤ h → G h = 0) ∧ (∀ h, tr_P G h → ∀ b, b < 2 → ch (2 * G h + b) = nI (G (2 * h + b))) ∧
  (∀ h, 2 ≤ h → G h = 0 → ∀ b, b < 2 → G (2 * h + b) = 0) ∧ (∀ h h', G h = G h' → G h ≠ 0 → h = h') ∧ (∀ h, G h < us) ∧
  us = 1 + tr_cn G 512 ∧ (∀ j, 2 * us ≤ j → ch j = 0)
theorem tr_inj {G : Nat → Nat} {us : Nat} {ch : Nat → Int32} (T : tr_T G us ch) {h h' : Nat} (p : tr_P G h) (p' : tr_P G h') (e : G h = G h') : h = h' := by
  obtain ⟨⟨_, t1⟩, _, _, _, t5, _, _, _⟩ := T
  by_cases z : G h = 0
  · have a : h = 1 := Or.resolve_right p (fun q => q z)
    have b : h' = 1 := Or.resolve_right p' (fun q => q (e.symm.trans z))
    omega
  · exact t5 h h' e z
theorem tr_le {G : Nat → Nat} {us : Nat} {ch : Nat → Int32} (T : tr_T G us ch) : us ≤ 511 := by
  obtain ⟨⟨t0, t1⟩, _, _, _, _, _, t7, _⟩ := T
  have := tr_cn_le t0 t1 510
  have e : (510 + 2 : Nat) = 512 := rfl
  rw [e] at this
  omega
theorem tr_lt {G : Nat → Nat} {us : Nat} {ch : Nat → Int32} (T : tr_T G us ch) (h : Nat) : G h < 511 := by
  have a := tr_le T
  obtain ⟨_, _, _, _, _, t6, _, _⟩ := T
  have := t6 h
  omega
theorem tr_new {G : Nat → Nat} {us : Nat} {ch : Nat → Int32} (T : tr_T G us ch) {h b : Nat} (p : tr_P G h) (hb : b < 2) (h1 : 1 ≤ h) (h2 : h ≤ 255) (z : G (2 * h + b) = 0) : tr_T (tr_up G (2 * h + b) us) (us + 1) (upd ch (2 * G h + b) (nI us)) := by
  have J := fun {x y : Nat} (q : tr_P G x) (q' : tr_P G y) (e : G x = G y) => tr_inj T q q' e
  obtain ⟨⟨t0, t1⟩, t2, t3, t4, t5, t6, t7, t8⟩ := T
  have u0 : us ≠ 0 := by have := t6 0; omega
  have gh := t6 h
  refine ⟨⟨?_, ?_⟩, ?_, ?_, ?_, ?_, ?_, ?_, ?_⟩
  · rw [tr_un (show 0 ≠ 2 * h + b by omega)]; exact t0
  · rw [tr_un (show 1 ≠ 2 * h + b by omega)]; exact t1
  · intro x hx
    rw [tr_un (show x ≠ 2 * h + b by omega)]; exact t2 x hx
  · intro x px d hd
    by_cases e : x = 2 * h + b
    · have n1 : 2 * x + d ≠ 2 * h + b := by omega
      have n2 : 2 * us + d ≠ 2 * G h + b := by omega
      have z1 : G (2 * x + d) = 0 := t4 x (by omega) (by rw [e]; exact z) d hd
      have z2 : ch (2 * us + d) = 0 := t8 (2 * us + d) (by omega)
      rw [tr_un n1, z1, e, tr_us, pk_un n2, z2]
      exact nI_0.symm
    · have px' : tr_P G x := by
        rcases px with q | q
        · exact Or.inl q
        · rw [tr_un e] at q; exact Or.inr q
      rw [tr_un e]
      by_cases i : 2 * G x + d = 2 * G h + b
      · have eb : d = b := by omega
        have eg : x = h := J px' p (by omega)
        rw [eb, eg, pk_us, tr_us]
      · have n1 : 2 * x + d ≠ 2 * h + b := by
          intro q
          have a1 : x = h := by omega
          have a2 : d = b := by omega
          exact i (by rw [a1, a2])
        rw [pk_un i, tr_un n1]
        exact t3 x px' d hd
  · intro x hx gx d hd
    have e : x ≠ 2 * h + b := by
      intro q
      rw [q, tr_us] at gx
      exact u0 gx
    rw [tr_un e] at gx
    have n1 : 2 * x + d ≠ 2 * h + b := by
      intro q
      have a1 : x = h := by omega
      rcases p with r | r
      · omega
      · exact r (a1 ▸ gx)
    rw [tr_un n1]
    exact t4 x hx gx d hd
  · intro x y exy gx
    by_cases e1 : x = 2 * h + b
    · by_cases e2 : y = 2 * h + b
      · omega
      · rw [e1, tr_us, tr_un e2] at exy
        have := t6 y
        omega
    · by_cases e2 : y = 2 * h + b
      · rw [e2, tr_us, tr_un e1] at exy
        have := t6 x
        omega
      · rw [tr_un e1, tr_un e2] at exy
        rw [tr_un e1] at gx
        exact t5 x y exy gx
  · intro x
    by_cases e1 : x = 2 * h + b
    · rw [e1, tr_us]; omega
    · rw [tr_un e1]
      have := t6 x
      omega
  · rw [tr_cn_up z u0 512, if_pos (show 2 * h + b < 512 by omega)]
    omega
  · intro j hj
    have n2 : j ≠ 2 * G h + b := by omega
    rw [pk_un n2]
    exact t8 j (by omega)
theorem tr_T0 : tr_T (fun _ => 0) 1 (fun _ => 0) := by
  refine ⟨⟨rfl, rfl⟩, fun _ _ => rfl, fun _ _ _ _ => rfl, fun _ _ _ _ _ => rfl, fun _ _ _ q => (q rfl).elim, fun _ => Nat.zero_lt_one, ?_, fun _ _ => rfl⟩
  have : ∀ n, tr_cn (fun _ => 0) n = 0 := by
    intro n
    induction n with
    | zero => rfl
    | succ n ih => rw [tr_cn_s, ih, if_pos rfl]
  exact (congrArg (fun n => 1 + n) (this 512)).symm
/-! ===== the counts ===== -/
def tr_N (G : Nat → Nat) (us : Nat) (C : Nat → Nat) (ct : Nat → Int32) : Prop :=
  (∀ h, tr_P G h → ct (G h) = nI (C h)) ∧ (∀ h, 2 ≤ h → G h = 0 → C h = 0) ∧ (∀ j, us ≤ j → ct j = 0)
theorem tr_set {G : Nat → Nat} {us : Nat} {ch : Nat → Int32} {C : Nat → Nat} {ct : Nat → Int32} (T : tr_T G us ch) (N : tr_N G us C ct) {h : Nat} (p : tr_P G h) (x : Nat) : tr_N G us (tr_up C h x) (upd ct (G h) (nI x)) := by
  have J := fun {x y : Nat} (q : tr_P G x) (q' : tr_P G y) (e : G x = G y) => tr_inj T q q' e
  obtain ⟨⟨t0, t1⟩, t2, t3, t4, t5, t6, t7, t8⟩ := T
  obtain ⟨n1, n2, n3⟩ := N
  refine ⟨?_, ?_, ?_⟩
  · intro y py
    by_cases e : y = h
    · rw [e, pk_us, tr_us]
    · have ng : G y ≠ G h := fun q => e (J py p q)
      rw [pk_un ng, tr_un e]
      exact n1 y py
  · intro y hy gy
    have e : y ≠ h := by
      intro q
      rcases p with r | r
      · omega
      · exact r (q ▸ gy)
    rw [tr_un e]
    exact n2 y hy gy
  · intro j hj
    have ng : j ≠ G h := by have := t6 h; omega
    rw [pk_un ng]
    exact n3 j hj
theorem tr_nnew {G : Nat → Nat} {us : Nat} {ch : Nat → Int32} {C : Nat → Nat} {ct : Nat → Int32} (T : tr_T G us ch) (N : tr_N G us C ct) {c : Nat} (hc : 2 ≤ c) (z : G c = 0) : tr_N (tr_up G c us) (us + 1) C ct := by
  obtain ⟨⟨t0, t1⟩, t2, t3, t4, t5, t6, t7, t8⟩ := T
  obtain ⟨n1, n2, n3⟩ := N
  have u0 : us ≠ 0 := by have := t6 0; omega
  refine ⟨?_, ?_, ?_⟩
  · intro y py
    by_cases e : y = c
    · rw [e, tr_us, n3 us (Nat.le_refl us), n2 c hc z]
      exact nI_0.symm
    · have py' : tr_P G y := by
        rcases py with q | q
        · exact Or.inl q
        · rw [tr_un e] at q; exact Or.inr q
      rw [tr_un e]
      exact n1 y py'
  · intro y hy gy
    have e : y ≠ c := by
      intro q
      rw [q, tr_us] at gy
      exact u0 gy
    rw [tr_un e] at gy
    exact n2 y hy gy
  · intro j hj
    exact n3 j (by omega)
/-- one defect -/
def tr_d (o h : Nat) : Nat := if h = o then 1 else 0
theorem tr_d1 (o : Nat) : tr_d o o = 1 := if_pos rfl
theorem tr_d0 {o h : Nat} (e : h ≠ o) : tr_d o h = 0 := if_neg e
def tr_S (C : Nat → Nat) : Prop := ∀ h, 1 ≤ h → h ≤ 255 → C h = C (2 * h) + C (2 * h + 1)
/-- while a key is added: the sums hold but at o, where one is too many; the leaves are the old ones but for o -/
def tr_A (D C : Nat → Nat) (o : Nat) : Prop :=
  (∀ h, 1 ≤ h → h ≤ 255 → C h = C (2 * h) + C (2 * h + 1) + tr_d o h) ∧ (∀ l, 256 ≤ l → C l = D l + tr_d o l) ∧ C 1 = D 1 + 1
/-- while a key is dropped: at o one is wanting -/
def tr_B (D C : Nat → Nat) (o : Nat) : Prop :=
  (∀ h, 1 ≤ h → h ≤ 255 → C h + tr_d o h = C (2 * h) + C (2 * h + 1)) ∧ (∀ l, 256 ≤ l → C l + tr_d o l = D l) ∧ C 1 + 1 = D 1
theorem tr_A0 {C : Nat → Nat} (S : tr_S C) : tr_A C (tr_up C 1 (C 1 + 1)) 1 := by
  refine ⟨?_, ?_, tr_us⟩
  · intro h h1 h2
    have s := S h h1 h2
    rw [tr_un (show 2 * h ≠ 1 by omega), tr_un (show 2 * h + 1 ≠ 1 by omega)]
    by_cases e : h = 1
    · rw [e] at s
      rw [e, tr_us, tr_d1]
      omega
    · rw [tr_un e, tr_d0 e]
      omega
  · intro l hl
    have e1 := tr_un (G := C) (c := 1) (v := C 1 + 1) (show l ≠ 1 by omega)
    have e2 := tr_d0 (show l ≠ 1 by omega)
    omega
theorem tr_B0 {C : Nat → Nat} {x : Nat} (S : tr_S C) (hx : C 1 = x + 1) : tr_B C (tr_up C 1 x) 1 := by
  refine ⟨?_, ?_, by rw [tr_us, hx]⟩
  · intro h h1 h2
    have s := S h h1 h2
    rw [tr_un (show 2 * h ≠ 1 by omega), tr_un (show 2 * h + 1 ≠ 1 by omega)]
    by_cases e : h = 1
    · rw [e] at s
      rw [e, tr_us, tr_d1]
      omega
    · rw [tr_un e, tr_d0 e]
      omega
  · intro l hl
    have e1 := tr_un (G := C) (c := 1) (v := x) (show l ≠ 1 by omega)
    have e2 := tr_d0 (show l ≠ 1 by omega)
    omega
/-- the two children of h under an update at 2 * o + b -/
theorem tr_kids {C : Nat → Nat} {o b x h : Nat} (hb : b < 2) : (h = o ∧ tr_up C (2 * o + b) x (2 * h) + tr_up C (2 * o + b) x (2 * h + 1) + C (2 * o + b) = C (2 * h) + C (2 * h + 1) + x) ∨ (h ≠ o ∧ tr_up C (2 * o + b) x (2 * h) + tr_up C (2 * o + b) x (2 * h + 1) = C (2 * h) + C (2 * h + 1)) := by
  by_cases e : h = o
  · refine Or.inl ⟨e, ?_⟩
    rw [e]
    have hb' : b = 0 ∨ b = 1 := by omega
    rcases hb' with r | r
    · rw [r, tr_un (show 2 * o + 1 ≠ 2 * o + 0 by omega), show tr_up C (2 * o + 0) x (2 * o) = x from tr_us, show 2 * o + 0 = 2 * o from rfl]
      omega
    · rw [r, tr_un (show 2 * o ≠ 2 * o + 1 by omega), tr_us]
      omega
  · refine Or.inr ⟨e, ?_⟩
    rw [tr_un (show 2 * h ≠ 2 * o + b by omega), tr_un (show 2 * h + 1 ≠ 2 * o + b by omega)]
theorem tr_As {D C : Nat → Nat} {o b : Nat} (A : tr_A D C o) (hb : b < 2) (h1 : 1 ≤ o) (h2 : o ≤ 255) : tr_A D (tr_up C (2 * o + b) (C (2 * o + b) + 1)) (2 * o + b) := by
  obtain ⟨a1, a2, a3⟩ := A
  refine ⟨?_, ?_, ?_⟩
  · intro h q1 q2
    have s := a1 h q1 q2
    rcases tr_kids (C := C) (x := C (2 * o + b) + 1) (h := h) (o := o) hb with ⟨e, k⟩ | ⟨e, k⟩
    · rw [e, tr_d1] at s
      rw [e] at k
      rw [e, tr_un (show o ≠ 2 * o + b by omega), tr_d0 (show o ≠ 2 * o + b by omega)]
      omega
    · rw [tr_d0 e] at s
      rw [k]
      by_cases f : h = 2 * o + b
      · rw [f] at s
        rw [f, tr_us, tr_d1]
        omega
      · rw [tr_un f, tr_d0 f]
        omega
  · intro l hl
    have s := a2 l hl
    rw [tr_d0 (show l ≠ o by omega)] at s
    by_cases f : l = 2 * o + b
    · rw [f] at s
      rw [f, tr_us, tr_d1]
      omega
    · rw [tr_un f, tr_d0 f]
      omega
  · rw [tr_un (show 1 ≠ 2 * o + b by omega)]
    exact a3
theorem tr_Bs {D C : Nat → Nat} {o b x : Nat} (B : tr_B D C o) (hb : b < 2) (h1 : 1 ≤ o) (h2 : o ≤ 255) (hx : C (2 * o + b) = x + 1) : tr_B D (tr_up C (2 * o + b) x) (2 * o + b) := by
  obtain ⟨a1, a2, a3⟩ := B
  refine ⟨?_, ?_, ?_⟩
  · intro h q1 q2
    have s := a1 h q1 q2
    rcases tr_kids (C := C) (x := x) (h := h) (o := o) hb with ⟨e, k⟩ | ⟨e, k⟩
    · rw [e, tr_d1] at s
      rw [e] at k
      rw [e, tr_un (show o ≠ 2 * o + b by omega), tr_d0 (show o ≠ 2 * o + b by omega)]
      omega
    · rw [tr_d0 e] at s
      rw [k]
      by_cases f : h = 2 * o + b
      · rw [f] at s
        rw [f, tr_us, tr_d1]
        omega
      · rw [tr_un f, tr_d0 f]
        omega
  · intro l hl
    have s := a2 l hl
    rw [tr_d0 (show l ≠ o by omega)] at s
    by_cases f : l = 2 * o + b
    · rw [f] at s
      rw [f, tr_us, tr_d1]
      omega
    · rw [tr_un f, tr_d0 f]
      omega
  · rw [tr_un (show 1 ≠ 2 * o + b by omega)]
    exact a3
/-! ===== the path of a key: pa_n k m, m bits left ===== -/
def pa_n (k m : Nat) : Nat := (256 + k) / 2 ^ m
theorem pa_0 (k : Nat) : pa_n k 0 = 256 + k := Nat.div_one _
theorem pa_8 {k : Nat} (hk : k < 256) : pa_n k 8 = 1 := by
  show (256 + k) / 256 = 1
  omega
theorem pa_h (k b : Nat) : pa_n k (b + 1) = pa_n k b / 2 := by
  show (256 + k) / 2 ^ (b + 1) = (256 + k) / 2 ^ b / 2
  rw [Nat.pow_succ, Nat.div_div_eq_div_mul]
theorem pa_s (k b : Nat) : pa_n k b = 2 * pa_n k (b + 1) + pa_n k b % 2 := by
  have := pa_h k b
  omega
theorem pa_pos (k : Nat) {m : Nat} (hm : m ≤ 8) : 1 ≤ pa_n k m := by
  have h : 2 ^ m ≤ 2 ^ 8 := Nat.pow_le_pow_right (by decide) hm
  have e : (2 : Nat) ^ 8 = 256 := rfl
  show 0 < (256 + k) / 2 ^ m
  exact Nat.div_pos (by omega) (Nat.two_pow_pos m)
theorem pa_le {k : Nat} (hk : k < 256) (m : Nat) : pa_n k (m + 1) ≤ 255 := by
  have h : pa_n k m ≤ 256 + k := Nat.div_le_self _ _
  rw [pa_h]
  omega
theorem pa_mono (k m d : Nat) : pa_n k (m + d) ≤ pa_n k m := by
  induction d with
  | zero => exact Nat.le_refl _
  | succ d ih =>
    have h : pa_n k (m + (d + 1)) = pa_n k (m + d) / 2 := pa_h k (m + d)
    omega
theorem pa_ne (k : Nat) {j b : Nat} (h : j < b) (hb : b ≤ 8) : pa_n k j ≠ pa_n k b := by
  obtain ⟨d, rfl⟩ : ∃ d, b = j + 1 + d := ⟨b - (j + 1), by omega⟩
  have h1 := pa_mono k (j + 1) d
  have h2 := pa_pos k hb
  rw [pa_h k j] at h1
  omega
theorem pa_bit (k : Nat) {b : Nat} (hb : b < 8) : k / 2 ^ b % 2 = pa_n k b % 2 := by
  show k / 2 ^ b % 2 = (256 + k) / 2 ^ b % 2
  have h : b = 0 ∨ b = 1 ∨ b = 2 ∨ b = 3 ∨ b = 4 ∨ b = 5 ∨ b = 6 ∨ b = 7 := by omega
  rcases h with rfl | rfl | rfl | rfl | rfl | rfl | rfl | rfl <;> omega
/-- on a path the counts grow towards the root -/
theorem pa_anc {C : Nat → Nat} (S : tr_S C) {k : Nat} (hk : k < 256) (j d : Nat) (h : j + d ≤ 8) : C (pa_n k j) ≤ C (pa_n k (j + d)) := by
  induction d with
  | zero => exact Nat.le_refl _
  | succ d ih =>
    have i := ih (by omega)
    have e := pa_s k (j + d)
    have s := S (pa_n k (j + d + 1)) (pa_pos k (by omega)) (pa_le hk _)
    have m2 : pa_n k (j + d) % 2 = 0 ∨ pa_n k (j + d) % 2 = 1 := by omega
    show C (pa_n k j) ≤ C (pa_n k (j + d + 1))
    rcases m2 with r | r
    · have e' : pa_n k (j + d) = 2 * pa_n k (j + d + 1) := by omega
      rw [← e'] at s
      omega
    · rw [r] at e
      rw [← e] at s
      omega
theorem pa_root {C : Nat → Nat} (S : tr_S C) {k j : Nat} (hk : k < 256) (hj : j ≤ 8) : C (pa_n k j) ≤ C 1 := by
  have h := pa_anc S hk j (8 - j) (by omega)
  rw [show j + (8 - j) = 8 by omega, pa_8 hk] at h
  exact h
theorem pa_leaf {C : Nat → Nat} (S : tr_S C) {k j : Nat} (hk : k < 256) (hj : j ≤ 8) : C (256 + k) ≤ C (pa_n k j) := by
  have h := pa_anc S hk 0 j (by omega)
  rw [Nat.zero_add, pa_0] at h
  exact h
end
section
/-! ===== xor on naturals, one bit at a time ===== -/
theorem xr_2 (a b x y : Nat) (hx : x < 2) (hy : y < 2) : (2 * a + x) ^^^ (2 * b + y) = 2 * (a ^^^ b) + (x ^^^ y) := by
  have h1 : ((2 * a + x) ^^^ (2 * b + y)) / 2 = a ^^^ b := by
    rw [Nat.xor_div_two, show (2 * a + x) / 2 = a by omega, show (2 * b + y) / 2 = b by omega]
  have h2 : ((2 * a + x) ^^^ (2 * b + y)) % 2 ^ 1 = x ^^^ y := by
    rw [Nat.xor_mod_two_pow, show (2 * a + x) % 2 ^ 1 = x by omega, show (2 * b + y) % 2 ^ 1 = y by omega]
  have e : (2 : Nat) ^ 1 = 2 := rfl
  rw [e] at h2
  rw [← h1, ← h2]
  omega
theorem xr_c {a b c : Nat} (h : a ^^^ c = b ^^^ c) : a = b := by
  have h2 : (a ^^^ c) ^^^ c = (b ^^^ c) ^^^ c := by rw [h]
  rw [Nat.xor_assoc, Nat.xor_assoc, Nat.xor_self, Nat.xor_zero, Nat.xor_zero] at h2
  exact h2
theorem xr_256 {k q : Nat} (hk : k < 256) (hq : q < 256) : (256 + k) ^^^ q = 256 + (k ^^^ q) ∧ k ^^^ q < 256 := by
  have l : k ^^^ q < 2 ^ 8 := Nat.xor_lt_two_pow (n := 8) hk hq
  have h1 : ((256 + k) ^^^ q) / 2 ^ 8 = 1 := by
    rw [Nat.xor_div_two_pow, show (256 + k) / 2 ^ 8 = 1 by omega, show q / 2 ^ 8 = 0 by omega, Nat.xor_zero]
  have h2 : ((256 + k) ^^^ q) % 2 ^ 8 = k ^^^ q := by
    rw [Nat.xor_mod_two_pow, show (256 + k) % 2 ^ 8 = k by omega, show q % 2 ^ 8 = q by omega]
  have e : (2 : Nat) ^ 8 = 256 := rfl
  rw [e] at h1 h2 l
  refine ⟨?_, l⟩
  omega
theorem xr_m (h x b : Nat) : (2 * h + x) * 2 ^ b = h * 2 ^ (b + 1) + x * 2 ^ b := by
  rw [Nat.add_mul, Nat.pow_succ, Nat.mul_comm 2 h, Nat.mul_assoc, Nat.mul_comm 2 (2 ^ b)]
theorem xr_h (q b : Nat) : q / 2 ^ b = 2 * (q / 2 ^ (b + 1)) + q / 2 ^ b % 2 := by
  rw [Nat.pow_succ, ← Nat.div_div_eq_div_mul]
  omega
/-- r is the greatest key ^^^ q over the held keys -/
def xm_M (C : Nat → Nat) (q r : Nat) : Prop := (∃ k, k < 256 ∧ C (256 + k) ≠ 0 ∧ k ^^^ q = r) ∧ ∀ k, k < 256 → C (256 + k) ≠ 0 → k ^^^ q ≤ r
/-- X at node h with m bits left -/
def xm_I (C : Nat → Nat) (q m h r : Nat) : Prop :=
  C h ≠ 0 ∧ 256 ≤ h * 2 ^ m ∧ (h + 1) * 2 ^ m ≤ 512 ∧ r + 256 = (h ^^^ q / 2 ^ m) * 2 ^ m ∧ ∀ k, k < 256 → C (256 + k) ≠ 0 → ((256 + k) ^^^ q) / 2 ^ m ≤ h ^^^ q / 2 ^ m
theorem xm_8 {C : Nat → Nat} {q : Nat} (hq : q < 256) (h : C 1 ≠ 0) : xm_I C q 8 1 0 := by
  have z : q / 2 ^ 8 = 0 := by omega
  refine ⟨h, by omega, by omega, (congrArg (fun t => (1 ^^^ t) * 2 ^ 8) z).symm, ?_⟩
  intro k hk _
  rw [z, Nat.xor_zero, (xr_256 hk hq).1]
  have := (xr_256 hk hq).2
  omega
theorem xm_0 {C : Nat → Nat} {q h r : Nat} (hq : q < 256) (I : xm_I C q 0 h r) : xm_M C q r := by
  obtain ⟨c, l1, l2, e, f⟩ := I
  rw [Nat.pow_zero] at l1 l2 e
  rw [Nat.div_one] at e
  obtain ⟨k, rfl⟩ : ∃ k, h = 256 + k := ⟨h - 256, by omega⟩
  have hk : k < 256 := by omega
  have x := (xr_256 hk hq).1
  refine ⟨⟨k, hk, c, by omega⟩, ?_⟩
  intro j hj cj
  have g := f j hj cj
  have y := (xr_256 hj hq).1
  rw [Nat.pow_zero, Nat.div_one, Nat.div_one] at g
  omega
theorem xm_hr {C : Nat → Nat} {q b h r : Nat} (I : xm_I C q (b + 1) h r) : 1 ≤ h ∧ h ≤ 255 := by
  obtain ⟨_, l1, l2, _, _⟩ := I
  have p := Nat.two_pow_pos b
  rw [Nat.pow_succ] at l1 l2
  constructor
  · rcases Nat.eq_zero_or_pos h with z | z
    · rw [z, Nat.zero_mul] at l1
      omega
    · exact z
  · have h2 : (h + 1) * 2 ≤ (h + 1) * (2 ^ b * 2) := Nat.mul_le_mul_left _ (by omega)
    omega
theorem xm_rl {C : Nat → Nat} {q m h r : Nat} (hm : m ≤ 8) (hq : q < 256) (I : xm_I C q m h r) : r < 256 := by
  obtain ⟨_, l1, l2, e, _⟩ := I
  have p := Nat.two_pow_pos m
  have hp : 2 ^ m * 2 ^ (9 - m) = 512 := by
    rw [← Nat.pow_add, show m + (9 - m) = 9 by omega] <;> rfl
  have a : h < 2 ^ (9 - m) := by
    apply Nat.lt_of_mul_lt_mul_left (a := 2 ^ m)
    rw [hp, Nat.mul_comm]
    rw [Nat.add_mul] at l2
    omega
  have b : q / 2 ^ m < 2 ^ (9 - m) := by
    rw [Nat.div_lt_iff_lt_mul p, Nat.mul_comm, hp]
    omega
  have c := Nat.xor_lt_two_pow a b
  have d : (h ^^^ q / 2 ^ m) * 2 ^ m < 2 ^ (9 - m) * 2 ^ m := (Nat.mul_lt_mul_right p).mpr c
  rw [Nat.mul_comm (2 ^ (9 - m)), hp] at d
  omega
theorem xm_or {C : Nat → Nat} {q b h r : Nat} (hb : b < 8) (I : xm_I C q (b + 1) h r) : r ||| 2 ^ b = r + 2 ^ b := by
  obtain ⟨_, _, _, e, _⟩ := I
  have d1 : 2 ^ (b + 1) ∣ 2 ^ 8 := Nat.pow_dvd_pow 2 (by omega)
  have d2 : 2 ^ (b + 1) ∣ r + 256 := ⟨_, e.trans (Nat.mul_comm _ _)⟩
  have d3 : 2 ^ (b + 1) ∣ r := (Nat.dvd_add_iff_left (n := 2 ^ 8) d1).mpr d2
  obtain ⟨t, rfl⟩ := d3
  exact (Nat.two_pow_add_eq_or_of_lt (Nat.pow_lt_pow_right (by decide) (Nat.lt_succ_self b)) t).symm
/-- the child that x picks is the next node, for the bounds -/
theorem xm_b {h b x : Nat} (hx : x < 2) (l1 : 256 ≤ h * 2 ^ (b + 1)) (l2 : (h + 1) * 2 ^ (b + 1) ≤ 512) : 256 ≤ (2 * h + x) * 2 ^ b ∧ (2 * h + x + 1) * 2 ^ b ≤ 512 := by
  have e1 := xr_m h x b
  have e2 : (2 * h + x + 1) * 2 ^ b = h * 2 ^ (b + 1) + (x + 1) * 2 ^ b := xr_m h (x + 1) b
  have e3 : (h + 1) * 2 ^ (b + 1) = h * 2 ^ (b + 1) + 2 * 2 ^ b := by rw [Nat.add_mul, Nat.one_mul, Nat.pow_succ 2 b, Nat.mul_comm (2 ^ b) 2]
  have e4 : (x + 1) * 2 ^ b ≤ 2 * 2 ^ b := Nat.mul_le_mul_right _ (by omega)
  rw [e1, e2]
  omega
theorem xm_1 {C : Nat → Nat} {q b h r x : Nat} (hx : x < 2) (hw : x ^^^ (q / 2 ^ b % 2) = 1) (I : xm_I C q (b + 1) h r) (c : C (2 * h + x) ≠ 0) : xm_I C q b (2 * h + x) (r + 2 ^ b) := by
  obtain ⟨_, l1, l2, e, f⟩ := I
  have B := xm_b hx l1 l2
  have k : (2 * h + x) ^^^ q / 2 ^ b = 2 * (h ^^^ q / 2 ^ (b + 1)) + 1 := by
    rw [xr_h q b, xr_2 _ _ _ _ hx (Nat.mod_lt _ (by decide)), hw]
  refine ⟨c, B.1, B.2, ?_, ?_⟩
  · rw [k, xr_m, ← e, Nat.one_mul]
    omega
  · intro j hj cj
    have g := f j hj cj
    have y := xr_h ((256 + j) ^^^ q) b
    rw [k]
    omega
theorem xm_2 {C : Nat → Nat} {q b h r x : Nat} (hb : b < 8) (S : tr_S C) (hx : x = q / 2 ^ b % 2) (I : xm_I C q (b + 1) h r) (c : C (2 * h + (1 - x)) = 0) : xm_I C q b (2 * h + x) r := by
  have hr := xm_hr I
  obtain ⟨ch, l1, l2, e, f⟩ := I
  have hx2 : x < 2 := by omega
  have B := xm_b hx2 l1 l2
  have k : (2 * h + x) ^^^ q / 2 ^ b = 2 * (h ^^^ q / 2 ^ (b + 1)) := by
    rw [xr_h q b, xr_2 _ _ _ _ hx2 (Nat.mod_lt _ (by decide)), ← hx, Nat.xor_self, Nat.add_zero]
  have s := S h hr.1 hr.2
  have x01 : x = 0 ∨ x = 1 := by omega
  refine ⟨?_, B.1, B.2, ?_, ?_⟩
  · rcases x01 with z | z
    · rw [z] at c ⊢
      intro w
      exact ch (by rw [s]; exact Nat.add_eq_zero_iff.mpr ⟨w, c⟩)
    · rw [z] at c ⊢
      intro w
      exact ch (by rw [s]; exact Nat.add_eq_zero_iff.mpr ⟨c, w⟩)
  · have m := xr_m (h ^^^ q / 2 ^ (b + 1)) 0 b
    rw [Nat.zero_mul] at m
    have m2 : 2 * (h ^^^ q / 2 ^ (b + 1)) * 2 ^ b = (h ^^^ q / 2 ^ (b + 1)) * 2 ^ (b + 1) := m
    rw [k, m2]
    exact e
  · intro j hj cj
    have g := f j hj cj
    have y := xr_h ((256 + j) ^^^ q) b
    rw [k]
    by_cases lt : ((256 + j) ^^^ q) / 2 ^ (b + 1) < h ^^^ q / 2 ^ (b + 1)
    · omega
    · have eq : ((256 + j) ^^^ q) / 2 ^ (b + 1) = h ^^^ q / 2 ^ (b + 1) := by omega
      rw [Nat.xor_div_two_pow] at eq
      have ph : pa_n j (b + 1) = h := xr_c eq
      have ps := pa_s j b
      rw [ph] at ps
      have pl := pa_leaf S hj (show b ≤ 8 by omega)
      have m2 : pa_n j b % 2 < 2 := Nat.mod_lt _ (by decide)
      have py : pa_n j b % 2 = x := by
        rcases Nat.lt_or_ge 0 (C (pa_n j b)) with w | w
        · have w2 : pa_n j b % 2 ≠ 1 - x := by
            intro v
            rw [v] at ps
            rw [ps] at w
            omega
          omega
        · omega
      rw [py] at ps
      rw [Nat.xor_div_two_pow]
      show pa_n j b ^^^ q / 2 ^ b ≤ _
      exact Nat.le_of_eq (by rw [ps, k])
end
section
/-! ===== ints ===== -/
theorem xt_bit {k b : Nat} (hk : k < 256) (hb : b < 8) : (nI k >>> (nI b &&& 31)) &&& 1 = nI (k / 2 ^ b % 2) := by
  rw [pk_shrN (show k < 2 ^ 31 by omega) _ b (s_l b (by omega))]
  have l : k / 2 ^ b ≤ k := Nat.div_le_self _ _
  exact pk_andN (show k / 2 ^ b < 2 ^ 32 by omega) 1 (by decide)
theorem xt_bitp {k b : Nat} (hk : k < 256) (hb : b < 8) : (nI k >>> (nI b &&& 31)) &&& 1 = nI (pa_n k b % 2) := by
  rw [xt_bit hk hb, pa_bit k hb]
theorem xt_idx (a b : Nat) : nI a * 2 + nI b = nI (2 * a + b) := by
  show nI a * nI 2 + nI b = _
  rw [pk_mul, nI_add, Nat.mul_comm a 2]
theorem xt_in {a b : Nat} (h : 2 * a + b < 1022) : vp_in (nI a * 2 + nI b) 1022 := by
  rw [xt_idx]
  exact vp_in_nI h (by decide)
theorem xt_rd {ch : Nat → Int32} {a b : Nat} {x : Int32} (h : 2 * a + b < 1022) (e : ch (2 * a + b) = x) : ch (nI a * 2 + nI b).toNatClampNeg = x := by
  rw [xt_idx, nI_clamp (show 2 * a + b < 2 ^ 31 by omega), e]
theorem xt_inc {c : Nat} (h : c < 65535) : ((nI c + 1).toUInt32 % 65536).toInt32 = nI (c + 1) := by
  rw [nI_1, pk_char, pk_tn (show c + 1 < 2 ^ 32 by omega), Nat.mod_eq_of_lt (show c + 1 < 65536 by omega)]
theorem xt_incv {c : Nat} (h : c < 65535) : vp_nar .char (((nI c + 1).toUInt32 % 65536).toInt32) = nI (c + 1) := by
  rw [pk_vc, xt_inc h]
theorem xt_dec {c : Nat} (h : c < 65535) : ((nI (c + 1) - 1).toUInt32 % 65536).toInt32 = nI c := by
  rw [nI_pred, pk_char, pk_tn (show c < 2 ^ 32 by omega), Nat.mod_eq_of_lt (show c < 65536 by omega)]
theorem xt_decv {c : Nat} (h : c < 65535) : vp_nar .char (((nI (c + 1) - 1).toUInt32 % 65536).toInt32) = nI c := by
  rw [pk_vc, xt_dec h]
theorem xt_s16 : ∀ c, c < 512 → (nI c).toInt16.toInt32 = nI c := by decide +kernel
theorem xt_sv {c : Nat} (h : c < 512) : vp_nar .short (nI c).toInt16.toInt32 = nI c := by rw [pk_vs, xt_s16 c h]
theorem xt_nf {c : Nat} (h : c < 512) : narrow .short (.int (nI c)) = .int (nI c) ∧ fits .short (.int (nI c)) = true := by
  have n := pk_ns (nI c)
  have f := pk_fs (nI c)
  rw [xt_s16 c h] at n f
  exact ⟨n, f⟩
theorem xt_not : ∀ x, x < 2 → nI x ^^^ 1 = nI (1 - x) := by decide +kernel
theorem xt_w : ∀ x, x < 2 → (1 - x) ^^^ x = 1 := by decide +kernel
theorem xt_1 : ∀ b, b < 8 → (1 : Int32) <<< (nI b &&& 31) = nI (2 ^ b) := by decide +kernel
theorem xt_neg : ∀ r, r < 256 → ¬ nI r ≤ -1 := by decide +kernel
theorem xt_7 : nI 8 + (-1) = 7 := by decide +kernel
theorem xt_nor (a b : Nat) : nI a ||| nI b = nI (a ||| b) := by
  apply Int32.toBitVec_inj.1
  show BitVec.ofNat 32 a ||| BitVec.ofNat 32 b = BitVec.ofNat 32 (a ||| b)
  apply BitVec.eq_of_getLsbD_eq
  intro i hi
  simp [hi]
theorem xt_or {r b : Nat} (hb : b < 8) (h : r ||| 2 ^ b = r + 2 ^ b) : nI r ||| ((1 : Int32) <<< (nI b &&& 31)) = nI (r + 2 ^ b) := by
  rw [xt_1 b hb, xt_nor, h]
theorem tr_ge {G : Nat → Nat} {us : Nat} {ch : Nat → Int32} (T : tr_T G us ch) : 1 ≤ us := by
  obtain ⟨_, _, _, _, _, t6, _, _⟩ := T
  have := t6 0
  omega
theorem tr_bd {C : Nat → Nat} (S : tr_S C) (n : Nat) : ∀ h, h ≤ n → 1 ≤ h → h ≤ 511 → C h ≤ C 1 := by
  induction n with
  | zero =>
    intro h a b c
    omega
  | succ n ih =>
    intro h a b c
    by_cases e : h = 1
    · rw [e]
      omega
    · have s := S (h / 2) (by omega) (by omega)
      have i := ih (h / 2) (by omega) (by omega) (by omega)
      have e2 : h = 2 * (h / 2) ∨ h = 2 * (h / 2) + 1 := by omega
      rcases e2 with e2 | e2
      · have e3 : C h = C (2 * (h / 2)) := congrArg C e2
        omega
      · have e3 : C h = C (2 * (h / 2) + 1) := congrArg C e2
        omega
/-- the link along a key's path -/
theorem pa_rd {G : Nat → Nat} {us : Nat} {ch : Nat → Int32} (T : tr_T G us ch) {k b : Nat} (p : tr_P G (pa_n k (b + 1))) : ch (2 * G (pa_n k (b + 1)) + pa_n k b % 2) = nI (G (pa_n k b)) := by
  obtain ⟨_, _, t3, _, _, _, _, _⟩ := T
  have h := t3 _ p (pa_n k b % 2) (Nat.mod_lt _ (by decide))
  rw [← pa_s k b] at h
  exact h
theorem pa_ix {G : Nat → Nat} {us : Nat} {ch : Nat → Int32} (T : tr_T G us ch) (h k b : Nat) : 2 * G h + pa_n k b % 2 < 1022 := by
  have g := tr_lt T h
  have m : pa_n k b % 2 < 2 := Nat.mod_lt _ (by decide)
  omega
/-! ===== X: add ===== -/
theorem xa_106 {post : Int32 → SX → Prop} {J : Int32 → Int32 → Int32 → (Nat → Int32) → (Nat → Int32) → Prop} {x1 cap fu hd : Int32} {b a c : Nat} {ch ct : Nat → Int32} (ha : a < 511) (hc : ct a = nI c) (c2 : c < 65535) (H : J (nI a) (nI b + (-1)) fu ch (upd ct a (nI (c + 1)))) : wX_add_106 post J x1 (nI b) (nI a) cap fu hd ch ct := by
  unfold wX_add_106
  have e : (nI a).toNatClampNeg = a := nI_clamp (by omega)
  rw [e, hc, xt_incv c2]
  exact ⟨vp_in_nI ha (by decide), vp_in_nI ha (by decide), nm_e (nm_e H)⟩
theorem xa_47 {post : Int32 → SX → Prop} {k : Nat} {cap hd : Int32} {D : Nat → Nat} (hk : k < 256) (HP : ∀ (G : Nat → Nat) (us : Nat) (C : Nat → Nat) (ch ct : Nat → Int32), tr_T G us ch → tr_N G us C ct → tr_A D C (256 + k) → post (nI (C (256 + k))) (cap, nI us, hd + 1, ch, ct)) (m : Nat) : m ≤ 8 → ∀ (G : Nat → Nat) (us : Nat) (C : Nat → Nat) (ch ct : Nat → Int32), tr_T G us ch → tr_N G us C ct → tr_P G (pa_n k m) → tr_A D C (pa_n k m) → (∀ j, j < m → C (pa_n k j) ≤ 12) → wX_add_47 post (nI k) cap hd (m + 1) (nI (G (pa_n k m))) (nI m + (-1)) (nI us) ch ct := by
  induction m with
  | zero =>
    intro _ G us C ch ct T N p A _
    rw [pa_0] at p A ⊢
    have g := tr_lt T (256 + k)
    have e : (nI (G (256 + k))).toNatClampNeg = G (256 + k) := nI_clamp (by omega)
    refine br_t (by decide) (nm_e ⟨vp_in_nI g (by decide), ?_⟩)
    show post (ct (nI (G (256 + k))).toNatClampNeg) (cap, nI us, hd + 1, ch, ct)
    rw [e, N.1 _ p]
    exact HP G us C ch ct T N A
  | succ b ih =>
    intro hm G us C ch ct T N p A B
    have hb : b < 8 := by omega
    have s := pa_s k b
    have b2 : pa_n k b % 2 < 2 := Nat.mod_lt _ (by decide)
    have o1 : 1 ≤ pa_n k (b + 1) := pa_pos k hm
    have o2 : pa_n k (b + 1) ≤ 255 := pa_le hk b
    have u1 := tr_ge T
    have u2 := tr_le T
    have fin : ∀ (G' : Nat → Nat) (us' : Nat) (ch' : Nat → Int32), tr_T G' us' ch' → tr_N G' us' C ct → tr_P G' (pa_n k b) → wX_add_106 post (wX_add_47 post (nI k) cap hd (b + 1)) (nI k) (nI b) (nI (G' (pa_n k b))) cap (nI us') hd ch' ct := by
      intro G' us' ch' T' N' p'
      have B0 := B b (by omega)
      refine xa_106 (tr_lt T' _) (N'.1 _ p') (show C (pa_n k b) < 65535 by omega) ?_
      refine ih (by omega) G' us' (tr_up C (pa_n k b) (C (pa_n k b) + 1)) ch' _ T' (tr_set T' N' p' _) p' ?_ ?_
      · have a := tr_As A b2 o1 o2
        rw [← s] at a
        exact a
      · intro j hj
        rw [tr_un (pa_ne k hj (by omega))]
        exact B j (by omega)
    have rd := pa_rd T p
    have i := pa_ix T (pa_n k (b + 1)) k b
    have ic : (nI (2 * G (pa_n k (b + 1)) + pa_n k b % 2)).toNatClampNeg = 2 * G (pa_n k (b + 1)) + pa_n k b % 2 := nI_clamp (by omega)
    rw [pk_m1]
    refine br_f (nI_pos (by omega)) (nm_r (xt_bitp hk hb) (nm_r (xt_idx _ _) ⟨vp_in_nI i (by decide), nm_r ((congrArg ch ic).trans rd) ?_⟩))
    by_cases z : G (pa_n k b) = 0
    · have T' : tr_T (tr_up G (pa_n k b) us) (us + 1) (upd ch (2 * G (pa_n k (b + 1)) + pa_n k b % 2) (nI us)) := by
        have t := tr_new T p b2 o1 o2 (by rw [← s]; exact z)
        rw [← s] at t
        exact t
      have q := fin (tr_up G (pa_n k b) us) (us + 1) _ T' (tr_nnew T N (by omega) z) (Or.inr (by rw [tr_us]; omega))
      rw [tr_us] at q
      refine br_t (by rw [z, nI_0]) (nm_r (nI_1 us) ⟨vp_in_nI i (by decide), nm_r (e' := upd ch (2 * G (pa_n k (b + 1)) + pa_n k b % 2) (nI us)) ?_ q⟩)
      rw [ic, xt_sv (by omega)]
    · exact br_f (nI_ne0 (by omega) (by have := tr_lt T (pa_n k b); omega)) (fin G us ch T N (Or.inr z))
theorem xa_all {post : Int32 → SX → Prop} {k : Nat} {cap hd : Int32} {G : Nat → Nat} {us : Nat} {C : Nat → Nat} {ch ct : Nat → Int32} (hk : k < 256) (T : tr_T G us ch) (N : tr_N G us C ct) (S : tr_S C) (cb : C 1 ≤ 12) (HP : ∀ (G : Nat → Nat) (us : Nat) (C' : Nat → Nat) (ch ct : Nat → Int32), tr_T G us ch → tr_N G us C' ct → tr_A C C' (256 + k) → post (nI (C' (256 + k))) (cap, nI us, hd + 1, ch, ct)) : ∃ n, wX_add_47 post (nI k) cap hd n 0 7 (nI us) ch (upd ct 0 (vp_nar .char ((((ct 0) + 1).toUInt32 % 65536).toInt32))) := by
  have g1 : G 1 = 0 := T.1.2
  have n1 : ct 0 = nI (C 1) := by
    have h := N.1 1 (Or.inl rfl)
    rw [g1] at h
    exact h
  have N' := tr_set T N (show tr_P G 1 from Or.inl rfl) (C 1 + 1)
  rw [g1] at N'
  have p8 : pa_n k 8 = 1 := pa_8 hk
  have A : tr_A C (tr_up C 1 (C 1 + 1)) (pa_n k 8) := by
    rw [p8]
    exact tr_A0 S
  have B : ∀ j, j < 8 → tr_up C 1 (C 1 + 1) (pa_n k j) ≤ 12 := by
    intro j hj
    have ne := pa_ne k hj (Nat.le_refl 8)
    rw [p8] at ne
    rw [tr_un ne]
    exact Nat.le_trans (pa_root S hk (by omega)) cb
  have L := xa_47 hk HP 8 (Nat.le_refl 8) G us _ ch _ T N' (Or.inl p8) A B
  rw [p8, g1, nI_0, xt_7] at L
  rw [n1, xt_incv (by omega)]
  exact ⟨9, L⟩
/-! ===== X: drop ===== -/
theorem xd_91 {post : Int32 → SX → Prop} {k : Nat} {cap fu hd : Int32} {G : Nat → Nat} {us : Nat} {D : Nat → Nat} {ch : Nat → Int32} (hk : k < 256) (T : tr_T G us ch) (HP : ∀ (C : Nat → Nat) (ct : Nat → Int32), tr_N G us C ct → tr_B D C (256 + k) → post (nI (C (256 + k))) (cap, fu, hd - 1, ch, ct)) (m : Nat) : m ≤ 8 → ∀ (C : Nat → Nat) (ct : Nat → Int32), tr_N G us C ct → tr_P G (pa_n k m) → tr_B D C (pa_n k m) → (∀ j, j < m → 1 ≤ C (pa_n k j) ∧ C (pa_n k j) ≤ 12) → wX_drop_91 post (nI k) cap fu hd (m + 1) (nI (G (pa_n k m))) (nI m + (-1)) ch ct := by
  induction m with
  | zero =>
    intro _ C ct N p A _
    rw [pa_0] at p A ⊢
    have g := tr_lt T (256 + k)
    have e : (nI (G (256 + k))).toNatClampNeg = G (256 + k) := nI_clamp (by omega)
    refine br_t (by decide) (nm_e ⟨vp_in_nI g (by decide), ?_⟩)
    show post (ct (nI (G (256 + k))).toNatClampNeg) (cap, fu, hd - 1, ch, ct)
    rw [e, N.1 _ p]
    exact HP C ct N A
  | succ b ih =>
    intro hm C ct N p A B
    have hb : b < 8 := by omega
    have s := pa_s k b
    have b2 : pa_n k b % 2 < 2 := Nat.mod_lt _ (by decide)
    have o1 : 1 ≤ pa_n k (b + 1) := pa_pos k hm
    have o2 : pa_n k (b + 1) ≤ 255 := pa_le hk b
    have rd := pa_rd T p
    have i := pa_ix T (pa_n k (b + 1)) k b
    have g := tr_lt T (pa_n k b)
    have e : (nI (G (pa_n k b))).toNatClampNeg = G (pa_n k b) := nI_clamp (by omega)
    have B0 := B b (by omega)
    obtain ⟨x, hx⟩ : ∃ x, C (pa_n k b) = x + 1 := ⟨C (pa_n k b) - 1, by omega⟩
    have p' : tr_P G (pa_n k b) := Or.inr (fun z => by
      have c0 := N.2.1 _ (show 2 ≤ pa_n k b by omega) z
      omega)
    have h1 : tr_B D (tr_up C (pa_n k b) x) (pa_n k b) := by
      have a := tr_Bs A b2 o1 o2 (x := x) (by rw [← s]; exact hx)
      rw [← s] at a
      exact a
    have h2 : ∀ j, j < b → 1 ≤ tr_up C (pa_n k b) x (pa_n k j) ∧ tr_up C (pa_n k b) x (pa_n k j) ≤ 12 := by
      intro j hj
      rw [tr_un (pa_ne k hj (by omega))]
      exact B j (by omega)
    have L := ih (by omega) (tr_up C (pa_n k b) x) _ (tr_set T N p' x) p' h1 h2
    rw [pk_m1]
    refine br_f (nI_pos (by omega)) (nm_r (xt_bitp hk hb) ⟨xt_in i, nm_r (xt_rd i rd) ⟨vp_in_nI g (by decide), vp_in_nI g (by decide), nm_r (e' := upd ct (G (pa_n k b)) (nI x)) ?_ (nm_e L)⟩⟩)
    rw [e, N.1 _ p', hx, xt_decv (by omega)]
theorem xd_19 {post : Int32 → SX → Prop} {k : Nat} {cap fu hd : Int32} {G : Nat → Nat} {us : Nat} {C : Nat → Nat} {ch ct : Nat → Int32} (hk : k < 256) (T : tr_T G us ch) (N : tr_N G us C ct) (S : tr_S C) (cb : C 1 ≤ 12) (H0 : C (256 + k) = 0 → post (-1) (cap, fu, hd, ch, ct)) (H1 : C (256 + k) ≠ 0 → ∀ a : Nat → Int32, a = upd ct 0 (vp_nar .char ((((ct 0) - 1).toUInt32 % 65536).toInt32)) → ∃ n, wX_drop_91 post (nI k) cap fu hd n 0 7 ch a) (m : Nat) : m ≤ 8 → tr_P G (pa_n k m) → (m < 8 → C (pa_n k m) ≠ 0) → wX_drop_19 post (nI k) cap fu hd ch ct (m + 1) (nI (G (pa_n k m))) (nI m + (-1)) := by
  induction m with
  | zero =>
    intro _ _ c
    have c0 := c (by decide)
    rw [pa_0] at c0
    exact br_t (by decide) (H1 c0)
  | succ b ih =>
    intro hm p _
    have hb : b < 8 := by omega
    have s := pa_s k b
    have o1 : 1 ≤ pa_n k (b + 1) := pa_pos k hm
    have rd := pa_rd T p
    have i := pa_ix T (pa_n k (b + 1)) k b
    have g := tr_lt T (pa_n k b)
    have c2 : 2 ≤ pa_n k b := by omega
    have lf := pa_leaf S hk (show b ≤ 8 by omega)
    have rt := pa_root S hk (show b ≤ 8 by omega)
    rw [pk_m1]
    refine br_f (nI_pos (by omega)) (nm_r (xt_bitp hk hb) ⟨xt_in i, nm_r (xt_rd i rd) ?_⟩)
    by_cases z : G (pa_n k b) = 0
    · have cz : C (pa_n k b) = 0 := N.2.1 _ c2 z
      exact br_t (by rw [z, nI_0]) (H0 (by omega))
    · have ec : ct (nI (G (pa_n k b))).toNatClampNeg = nI (C (pa_n k b)) := by
        rw [nI_clamp (show G (pa_n k b) < 2 ^ 31 by omega), N.1 _ (Or.inr z)]
      refine br_f (nI_ne0 (by omega) (by omega)) ⟨vp_in_nI g (by decide), ?_⟩
      by_cases y : C (pa_n k b) = 0
      · exact br_t (by rw [ec, y, nI_0]) (H0 (by omega))
      · exact br_f (by rw [ec]; exact nI_ne0 (by omega) (by omega)) (nm_e (ih (by omega) (Or.inr z) (fun _ => y)))
theorem xd_all {post : Int32 → SX → Prop} {k : Nat} {cap fu hd : Int32} {G : Nat → Nat} {us : Nat} {C : Nat → Nat} {ch ct : Nat → Int32} (hk : k < 256) (T : tr_T G us ch) (N : tr_N G us C ct) (S : tr_S C) (cb : C 1 ≤ 12) (H0 : C (256 + k) = 0 → post (-1) (cap, fu, hd, ch, ct)) (H1 : C (256 + k) ≠ 0 → ∀ (C' : Nat → Nat) (a : Nat → Int32), tr_N G us C' a → tr_B C C' (256 + k) → post (nI (C' (256 + k))) (cap, fu, hd - 1, ch, a)) : ∃ n, wX_drop_19 post (nI k) cap fu hd ch ct n 0 7 := by
  have g1 : G 1 = 0 := T.1.2
  have p8 : pa_n k 8 = 1 := pa_8 hk
  have K : C (256 + k) ≠ 0 → ∀ a : Nat → Int32, a = upd ct 0 (vp_nar .char ((((ct 0) - 1).toUInt32 % 65536).toInt32)) → ∃ n, wX_drop_91 post (nI k) cap fu hd n 0 7 ch a := by
    intro c a ea
    have n1 : ct 0 = nI (C 1) := by
      have h := N.1 1 (Or.inl rfl)
      rw [g1] at h
      exact h
    have lf : ∀ j, j ≤ 8 → C (256 + k) ≤ C (pa_n k j) := fun j hj => pa_leaf S hk hj
    have lr := lf 8 (Nat.le_refl 8)
    rw [p8] at lr
    obtain ⟨x, hx⟩ : ∃ x, C 1 = x + 1 := ⟨C 1 - 1, by omega⟩
    have N' := tr_set T N (show tr_P G 1 from Or.inl rfl) x
    rw [g1] at N'
    have A : tr_B C (tr_up C 1 x) (pa_n k 8) := by
      rw [p8]
      exact tr_B0 S hx
    have B : ∀ j, j < 8 → 1 ≤ tr_up C 1 x (pa_n k j) ∧ tr_up C 1 x (pa_n k j) ≤ 12 := by
      intro j hj
      have ne := pa_ne k hj (Nat.le_refl 8)
      rw [p8] at ne
      rw [tr_un ne]
      have a1 := lf j (by omega)
      have a2 := pa_root S hk (show j ≤ 8 by omega)
      omega
    have M := xd_91 hk T (H1 c) 8 (Nat.le_refl 8) _ _ N' (Or.inl p8) A B
    rw [p8, g1, nI_0, xt_7] at M
    rw [n1, hx, xt_decv (by omega)] at ea
    rw [ea]
    exact ⟨9, M⟩
  have L := xd_19 (cap := cap) (fu := fu) (hd := hd) hk T N S cb H0 K 8 (Nat.le_refl 8) (Or.inl p8) (fun h => absurd h (Nat.lt_irrefl 8))
  rw [p8, g1, nI_0, xt_7] at L
  exact ⟨9, L⟩
/-! ===== X: maxXor ===== -/
theorem xm_91 {post : Int32 → Prop} {J : Int32 → Int32 → Int32 → Prop} {x1 r cap fu hd : Int32} {a b x c : Nat} {ch ct : Nat → Int32} (i : 2 * a + x < 1022) (e : ch (2 * a + x) = nI c) (H : J (nI c) r (nI b + (-1))) : wX_maxXor_91 post J x1 (nI a) r (nI b) (nI x) cap fu hd ch ct := by
  unfold wX_maxXor_91
  exact ⟨xt_in i, nm_r (xt_rd i e) (nm_e H)⟩
theorem xm_31 {post : Int32 → Prop} {q : Nat} {cap fu hd : Int32} {G : Nat → Nat} {us : Nat} {C : Nat → Nat} {ch ct : Nat → Int32} (hq : q < 256) (T : tr_T G us ch) (N : tr_N G us C ct) (S : tr_S C) (cb : C 1 ≤ 12) (HP : ∀ r, r < 256 → xm_M C q r → post (nI r)) (m : Nat) : m ≤ 8 → ∀ h r, tr_P G h → xm_I C q m h r → wX_maxXor_31 post (nI q) cap fu hd ch ct (m + 1) (nI (G h)) (nI r) (nI m + (-1)) := by
  induction m with
  | zero =>
    intro _ h r p I
    exact br_t (by decide) (HP r (xm_rl (by decide) hq I) (xm_0 hq I))
  | succ b ih =>
    intro hm h r p I
    have hb : b < 8 := by omega
    have hr := xm_hr I
    have x2 : q / 2 ^ b % 2 < 2 := Nat.mod_lt _ (by decide)
    have w2 : 1 - q / 2 ^ b % 2 < 2 := by omega
    have g := tr_lt T h
    have g2 := tr_lt T (2 * h + (1 - q / 2 ^ b % 2))
    have bd := tr_bd S 511 (2 * h + (1 - q / 2 ^ b % 2)) (by omega) (by omega) (by omega)
    have t3 : ∀ x, x < 2 → ch (2 * G h + x) = nI (G (2 * h + x)) := by
      obtain ⟨_, _, t, _, _, _, _, _⟩ := T
      exact fun x hx => t h p x hx
    have i1 : 2 * G h + (1 - q / 2 ^ b % 2) < 1022 := by omega
    have i2 : 2 * G h + q / 2 ^ b % 2 < 1022 := by omega
    have low : C (2 * h + (1 - q / 2 ^ b % 2)) = 0 → wX_maxXor_91 post (wX_maxXor_31 post (nI q) cap fu hd ch ct (b + 1)) (nI q) (nI (G h)) (nI r) (nI b) (nI (q / 2 ^ b % 2)) cap fu hd ch ct := by
      intro c
      have I2 := xm_2 hb S rfl I c
      exact xm_91 i2 (t3 _ x2) (ih (by omega) _ r (Or.inr (fun z => I2.1 (N.2.1 _ (by omega) z))) I2)
    rw [pk_m1]
    refine br_f (nI_pos (by omega)) (nm_r (xt_bit hq hb) (nm_r (xt_not _ x2) ⟨xt_in i1, nm_r (xt_rd i1 (t3 _ w2)) ?_⟩))
    by_cases z : G (2 * h + (1 - q / 2 ^ b % 2)) = 0
    · exact br_t (by rw [z, nI_0]) (low (N.2.1 _ (by omega) z))
    · have ec : ct (nI (G (2 * h + (1 - q / 2 ^ b % 2)))).toNatClampNeg = nI (C (2 * h + (1 - q / 2 ^ b % 2))) := by
        rw [nI_clamp (show G (2 * h + (1 - q / 2 ^ b % 2)) < 2 ^ 31 by omega), N.1 _ (Or.inr z)]
      refine br_f (nI_ne0 (by omega) (by omega)) ⟨vp_in_nI g2 (by decide), ?_⟩
      by_cases y : C (2 * h + (1 - q / 2 ^ b % 2)) = 0
      · exact br_t (by rw [ec, y, nI_0]) (low y)
      · exact br_f (by rw [ec]; exact nI_ne0 (by omega) (by omega)) (nm_r (xt_or hb (xm_or hb I)) (nm_e (ih (by omega) _ _ (Or.inr z) (xm_1 w2 (xt_w _ x2) I y))))
theorem xm_all {post : Int32 → Prop} {q : Nat} {cap fu hd : Int32} {G : Nat → Nat} {us : Nat} {C : Nat → Nat} {ch ct : Nat → Int32} (hq : q < 256) (T : tr_T G us ch) (N : tr_N G us C ct) (S : tr_S C) (cb : C 1 ≤ 12) (c0 : C 1 ≠ 0) (HP : ∀ r, r < 256 → xm_M C q r → post (nI r)) : ∃ n, wX_maxXor_31 post (nI q) cap fu hd ch ct n 0 0 7 := by
  have g1 : G 1 = 0 := T.1.2
  have L := xm_31 (cap := cap) (fu := fu) (hd := hd) hq T N S cb HP 8 (Nat.le_refl 8) 1 0 (Or.inl rfl) (xm_8 hq c0)
  rw [g1, nI_0, xt_7] at L
  exact ⟨9, L⟩
/-! ===== Y: maxXor ===== -/
theorem ym_18 {post : Int32 → Prop} {q r : Nat} {cap hd : Int32} {C : Nat → Nat} {cn : Nat → Int32} (hr : r < 256) (cb : ∀ k, k < 256 → C (256 + k) ≤ 12) (hc : ∀ k, k < 256 → cn k = nI (C (256 + k))) (M : ∀ k, k < 256 → C (256 + k) ≠ 0 → k ^^^ q ≤ r) (hp : post (nI r)) (d : Nat) : ∀ (i : Nat) (best : Int32), i + d = 256 → (((∃ k, i ≤ k ∧ k < 256 ∧ C (256 + k) ≠ 0 ∧ k ^^^ q = r) ∧ (best = -1 ∨ ∃ t, t ≤ r ∧ best = nI t)) ∨ best = nI r) → wY_maxXor_18 post (nI q) cap hd cn (d + 1) best (nI i) := by
  induction d with
  | zero =>
    intro i best hi H
    have hi' : i = 256 := by omega
    have e : best = nI r := by
      rcases H with ⟨⟨k, a, b, _⟩, _⟩ | e
      · omega
      · exact e
    rw [e, hi']
    exact br_t (by decide) hp
  | succ d ih =>
    intro i best hi H
    have il : i < 256 := by omega
    have h : ¬ (256 : Int32) ≤ nI i := nI_ge (b := 256) il (by decide)
    have ec : cn (nI i).toNatClampNeg = nI (C (256 + i)) := by rw [nI_clamp (show i < 2 ^ 31 by omega), hc i il]
    have cl := cb i il
    refine br_f h ⟨vp_in_nI il (by decide), ?_⟩
    by_cases y : C (256 + i) = 0
    · refine br_t (by rw [ec, y] <;> decide) (nm_r (nI_1 i) (ih (i + 1) best (by omega) ?_))
      rcases H with ⟨⟨k, a, b, c, e⟩, f⟩ | H
      · have w : k ≠ i := by
          intro w
          rw [w] at c
          exact c y
        exact Or.inl ⟨⟨k, by omega, b, c, e⟩, f⟩
      · exact Or.inr H
    · refine br_f (by rw [ec]; exact nI_nle (by omega) (by omega)) ?_
      have m := M i il y
      have ex := nx_xor i q
      by_cases l : nI i ^^^ nI q ≤ best
      · refine br_t l (nm_r (nI_1 i) (ih (i + 1) best (by omega) ?_))
        rcases H with ⟨⟨k, a, b, c, e⟩, f⟩ | H
        · by_cases w : k = i
          · rw [w] at e
            rw [ex, e] at l
            rcases f with f | ⟨t, t1, t2⟩
            · rw [f] at l
              exact absurd l (xt_neg r hr)
            · rw [t2] at l
              have l2 := (nI_leI (a := r) (b := t) (by omega) (by omega)).mp l
              have tr : t = r := by omega
              exact Or.inr (by rw [t2, tr])
          · exact Or.inl ⟨⟨k, by omega, b, c, e⟩, f⟩
        · exact Or.inr H
      · refine br_f l (nm_r ex (nm_r (nI_1 i) (ih (i + 1) (nI (i ^^^ q)) (by omega) ?_)))
        rcases H with ⟨⟨k, a, b, c, e⟩, f⟩ | H
        · by_cases w : k = i
          · rw [w] at e
            exact Or.inr (by rw [e])
          · exact Or.inl ⟨⟨k, by omega, b, c, e⟩, Or.inr ⟨i ^^^ q, m, rfl⟩⟩
        · exact absurd (by rw [ex, H]; exact nI_le m (by omega)) l
theorem ym_e {post : Int32 → Prop} {x1 : Int32} {cap hd : Int32} {cn : Nat → Int32} (hc : ∀ k, k < 256 → cn k = nI 0) (hp : post (-1)) (d : Nat) : ∀ i : Nat, i + d = 256 → wY_maxXor_18 post x1 cap hd cn (d + 1) (-1) (nI i) := by
  induction d with
  | zero =>
    intro i hi
    have hi' : i = 256 := by omega
    rw [hi']
    exact br_t (by decide) hp
  | succ d ih =>
    intro i hi
    have il : i < 256 := by omega
    have h : ¬ (256 : Int32) ≤ nI i := nI_ge (b := 256) il (by decide)
    have ec : cn (nI i).toNatClampNeg = nI 0 := by rw [nI_clamp (show i < 2 ^ 31 by omega), hc i il]
    exact br_f h ⟨vp_in_nI il (by decide), br_t (by rw [ec] <;> decide) (nm_r (nI_1 i) (ih (i + 1) (by omega)))⟩
end
section
/-! ===== what is owed ===== -/
def i_Rel (k : Nat) (u : SX) (v : SY) : Prop :=
  ∃ (cap us : Nat) (ch ct cn : Nat → Int32) (G C : Nat → Nat), u = (nI cap, nI us, nI (C 1), ch, ct) ∧ v = (nI cap, nI (C 1), cn) ∧ 1 ≤ cap ∧ cap ≤ 12 ∧ C 1 ≤ cap ∧ tr_T G us ch ∧ tr_N G us C ct ∧ tr_S C ∧ ∀ i, i < 256 → cn i = nI (C (256 + i))
theorem i_up {k : Nat} {u : SX} {v : SY} (h : i_Rel k u v) : i_Rel (k + 2) u v := h
theorem rl_0 {cap : Nat} (h1 : 1 ≤ cap) (h2 : cap ≤ 12) : i_Rel 1 (nI cap, 1, 0, (fun _ => 0), (fun _ => 0)) (nI cap, 0, (fun _ => 0)) :=
  ⟨cap, 1, fun _ => 0, fun _ => 0, fun _ => 0, fun _ => 0, fun _ => 0, rfl, rfl, h1, h2, Nat.zero_le _, tr_T0, ⟨fun _ _ => rfl, fun _ _ _ => rfl, fun _ _ => rfl⟩, fun _ _ _ => rfl, fun _ _ => rfl⟩
theorem i_vc0 (k0 : Int32) : wpX_init (fun u => wpY_init (fun v => i_Rel 1 u v) k0) k0 := by
  by_cases a : 1 ≤ k0
  · by_cases b : k0 ≤ 12
    · have n : ¬ k0 < 0 := by
        rw [Int32.le_iff_toInt_le] at a
        rw [Int32.lt_iff_toInt_lt]
        have e1 : (1 : Int32).toInt = 1 := by decide
        have e0 : (0 : Int32).toInt = 0 := by decide
        omega
      obtain ⟨c, hc, rfl⟩ := nI_of2 (M := 12) (n := 12) (by decide) n b
      have c1 : 1 ≤ c := (nI_leI (a := 1) (by decide) (by omega)).mp a
      exact br_t a (br_t b (br_t a (br_t b (rl_0 c1 hc))))
    · exact br_t a (br_f b (br_t a (br_f b (rl_0 (cap := 12) (by decide) (by decide)))))
  · have b : (1 : Int32) ≤ 12 := by decide
    exact br_f a (br_t b (br_f a (rl_0 (cap := 1) (by decide) (by decide))))
theorem i_vc_add {k : Nat} {u : SX} {v : SY} (I : i_Rel k u v) (hk : k + 2 ≤ 1025) (v1 : Int32) : wpX_add (fun r u' => wpY_add (fun r' v' => r' = r ∧ i_Rel (k + 2) u' v') v v1) u v1 := by
  obtain ⟨cap, us, ch, ct, cn, G, C, rfl, rfl, c1, c2, hc, T, N, S, Y⟩ := I
  have R : i_Rel (k + 2) (nI cap, nI us, nI (C 1), ch, ct) (nI cap, nI (C 1), cn) := ⟨cap, us, ch, ct, cn, G, C, rfl, rfl, c1, c2, hc, T, N, S, Y⟩
  by_cases h0 : v1 < 0
  · exact br_t h0 (br_t h0 ⟨rfl, R⟩)
  · by_cases h5 : v1 ≤ 255
    · obtain ⟨j, hj, rfl⟩ := nI_of2 (M := 255) (n := 255) (by decide) h0 h5
      have hj' : j < 256 := by omega
      by_cases f : C 1 = cap
      · have e1 : nI (C 1) = nI cap := congrArg nI f
        have e2 : ¬ nI (C 1) < nI cap := nI_nlt (by omega) (by omega)
        exact br_f h0 (br_t h5 (br_t e1 (br_f h0 (br_t h5 (br_f e2 ⟨rfl, R⟩)))))
      · have e1 : ¬ nI (C 1) = nI cap := fun w => f ((nI_eq (by omega) (by omega)).mp w)
        have e2 : nI (C 1) < nI cap := nI_lt (by omega) (by omega)
        refine br_f h0 (br_t h5 (br_f e1 (nm_e (xa_all hj' T N S (by omega) ?_))))
        intro G' us' C' ch' ct' T' N' A'
        obtain ⟨a1, a2, a3⟩ := A'
        have l := a2 (256 + j) (by omega)
        rw [tr_d1] at l
        have cj := tr_bd S 511 (256 + j) (by omega) (by omega) (by omega)
        have ej : (nI j).toNatClampNeg = j := nI_clamp (by omega)
        have nf := xt_nf (show C 1 + 1 < 512 by omega)
        refine br_f h0 (br_t h5 (br_t e2 (nm_r (e' := nI (C 1 + 1)) ?_ ⟨nf.1, nf.2, vp_in_nI hj' (by decide), vp_in_nI hj' (by decide), nm_r (e' := upd cn j (nI (C (256 + j) + 1))) ?_ ⟨?_, ?_⟩⟩)))
        · rw [nI_1, xt_s16 _ (show C 1 + 1 < 512 by omega)]
        · rw [ej, Y j hj', xt_incv (by omega)]
        · rw [ej, Y j hj', xt_inc (by omega), l]
        · refine ⟨cap, us', ch', ct', upd cn j (nI (C (256 + j) + 1)), G', C', ?_, ?_, c1, c2, by omega, T', N', ?_, ?_⟩
          · rw [a3, nI_1]
          · rw [a3]
          · intro h q1 q2
            have s := a1 h q1 q2
            rw [tr_d0 (show h ≠ 256 + j by omega)] at s
            exact s
          · intro i hi
            by_cases e : i = j
            · rw [e, pk_us, l]
            · have s := a2 (256 + i) (by omega)
              rw [tr_d0 (show 256 + i ≠ 256 + j by omega)] at s
              rw [pk_un e, Y i hi]
              exact congrArg nI s.symm
    · exact br_f h0 (br_f h5 (br_f h0 (br_f h5 ⟨rfl, R⟩)))
theorem i_vc_drop {k : Nat} {u : SX} {v : SY} (I : i_Rel k u v) (hk : k + 2 ≤ 1025) (v1 : Int32) : wpX_drop (fun r u' => wpY_drop (fun r' v' => r' = r ∧ i_Rel (k + 2) u' v') v v1) u v1 := by
  obtain ⟨cap, us, ch, ct, cn, G, C, rfl, rfl, c1, c2, hc, T, N, S, Y⟩ := I
  have R : i_Rel (k + 2) (nI cap, nI us, nI (C 1), ch, ct) (nI cap, nI (C 1), cn) := ⟨cap, us, ch, ct, cn, G, C, rfl, rfl, c1, c2, hc, T, N, S, Y⟩
  by_cases h0 : v1 < 0
  · exact br_t h0 (br_t h0 ⟨rfl, R⟩)
  · by_cases h5 : v1 ≤ 255
    · obtain ⟨j, hj, rfl⟩ := nI_of2 (M := 255) (n := 255) (by decide) h0 h5
      have hj' : j < 256 := by omega
      have ej : (nI j).toNatClampNeg = j := nI_clamp (by omega)
      have cj := tr_bd S 511 (256 + j) (by omega) (by omega) (by omega)
      have ec : cn (nI j).toNatClampNeg = nI (C (256 + j)) := by rw [ej, Y j hj']
      refine br_f h0 (br_t h5 (xd_all hj' T N S (by omega) ?_ ?_))
      · intro z
        exact br_f h0 (br_t h5 ⟨vp_in_nI hj' (by decide), br_t (by rw [ec, z, nI_0]) ⟨rfl, R⟩⟩)
      · intro nz C' ct' N' A'
        obtain ⟨a1, a2, a3⟩ := A'
        have l := a2 (256 + j) (by omega)
        rw [tr_d1] at l
        have nf := xt_nf (show C' 1 < 512 by omega)
        refine br_f h0 (br_t h5 ⟨vp_in_nI hj' (by decide), br_f (by rw [ec]; exact nI_ne0 (by omega) (by omega)) (nm_r (e' := nI (C' 1)) ?_ ⟨nf.1, nf.2, vp_in_nI hj' (by decide), vp_in_nI hj' (by decide), nm_r (e' := upd cn j (nI (C' (256 + j)))) ?_ ⟨?_, ?_⟩⟩)⟩)
        · rw [← a3, nI_pred, xt_s16 _ (show C' 1 < 512 by omega)]
        · rw [ec, ej, ← l, xt_decv (by omega)]
        · rw [ec, ← l, xt_dec (by omega)]
        · refine ⟨cap, us, ch, ct', upd cn j (nI (C' (256 + j))), G, C', ?_, ?_, c1, c2, by omega, T, N', ?_, ?_⟩
          · rw [← a3, nI_pred]
          · rfl
          · intro h q1 q2
            have s := a1 h q1 q2
            rw [tr_d0 (show h ≠ 256 + j by omega)] at s
            exact s
          · intro i hi
            by_cases e : i = j
            · rw [e, pk_us]
            · have s := a2 (256 + i) (by omega)
              rw [tr_d0 (show 256 + i ≠ 256 + j by omega)] at s
              rw [pk_un e, Y i hi]
              exact congrArg nI s.symm
    · exact br_f h0 (br_f h5 (br_f h0 (br_f h5 ⟨rfl, R⟩)))
theorem i_vc_maxXor {k : Nat} {u : SX} {v : SY} (I : i_Rel k u v) (hk : k + 2 ≤ 1025) (v1 : Int32) : wpX_maxXor (fun r => wpY_maxXor (fun r' => r' = r ∧ i_Rel (k + 2) u v) v v1) u v1 := by
  obtain ⟨cap, us, ch, ct, cn, G, C, rfl, rfl, c1, c2, hc, T, N, S, Y⟩ := I
  have R : i_Rel (k + 2) (nI cap, nI us, nI (C 1), ch, ct) (nI cap, nI (C 1), cn) := ⟨cap, us, ch, ct, cn, G, C, rfl, rfl, c1, c2, hc, T, N, S, Y⟩
  have lf : ∀ i, i < 256 → C (256 + i) ≤ C 1 := fun i hi => tr_bd S 511 (256 + i) (by omega) (by omega) (by omega)
  by_cases h0 : v1 < 0
  · exact br_t h0 (br_t h0 ⟨rfl, R⟩)
  · by_cases h5 : v1 ≤ 255
    · obtain ⟨j, hj, rfl⟩ := nI_of2 (M := 255) (n := 255) (by decide) h0 h5
      have hj' : j < 256 := by omega
      by_cases z : C 1 = 0
      · have e0 : nI (C 1) = 0 := by rw [z, nI_0]
        have Z : ∀ i, i < 256 → cn i = nI 0 := by
          intro i hi
          have a := lf i hi
          rw [Y i hi]
          exact congrArg nI (by omega)
        exact br_f h0 (br_t h5 (br_t e0 (br_f h0 (br_t h5 ⟨257, ym_e Z ⟨rfl, R⟩ 256 0 rfl⟩))))
      · have e0 : ¬ nI (C 1) = 0 := nI_ne0 (by omega) (by omega)
        refine br_f h0 (br_t h5 (br_f e0 (xm_all hj' T N S (by omega) z ?_)))
        intro r hr M
        obtain ⟨⟨a, ha, ca, ea⟩, mx⟩ := M
        refine br_f h0 (br_t h5 ⟨257, ym_18 hr (fun i hi => by have := lf i hi; omega) Y mx ⟨rfl, R⟩ 256 0 (-1) rfl (Or.inl ⟨⟨a, Nat.zero_le a, ha, ca, ea⟩, Or.inl rfl⟩)⟩)
    · exact br_f h0 (br_f h5 (br_f h0 (br_f h5 ⟨rfl, R⟩)))
theorem i_vc_size {k : Nat} {u : SX} {v : SY} (I : i_Rel k u v) (hk : k + 2 ≤ 1025) : wpX_size (fun r => wpY_size (fun r' => r' = r ∧ i_Rel (k + 2) u v) v) u := by
  obtain ⟨cap, us, ch, ct, cn, G, C, rfl, rfl, c1, c2, hc, T, N, S, Y⟩ := I
  exact ⟨rfl, cap, us, ch, ct, cn, G, C, rfl, rfl, c1, c2, hc, T, N, S, Y⟩
end
