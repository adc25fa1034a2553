section
/-! rows of the kit's rows/ (starting text) -/
theorem pk_us {f : Nat → Int32} {k : Nat} {x : Int32} : upd f k x k = x := if_pos rfl
theorem pk_un {f : Nat → Int32} {k j : Nat} {x : Int32} (h : j ≠ k) : upd f k x j = f j := if_neg h
theorem pk_sub {a b : Nat} (h : b ≤ a) : nI a - nI b = nI (a - b) := by
  obtain ⟨c, rfl⟩ : ∃ c, a = c + b := ⟨a - b, by omega⟩
  rw [← nI_add, Int32.add_sub_cancel, Nat.add_sub_cancel]
theorem pk_m1 (n : Nat) : nI (n + 1) + (-1) = nI n := by
  rw [← nI_1, Int32.add_assoc, show (1 : Int32) + (-1) = 0 from rfl, Int32.add_zero]
theorem pk_mul (a b : Nat) : nI a * nI b = nI (a * b) := (Int32.ofNat_mul a b).symm
theorem pk_le {x y : Int32} {A B : Prop} (a b : Nat) (f : a ≤ b → A) (g : b < a → B) (hx : x = nI a := by rfl) (hy : y = nI b := by rfl) (ha : a < 2 ^ 31 := by omega) (hb : b < 2 ^ 31 := by omega) : (x ≤ y → A) ∧ (¬ x ≤ y → B) := by
  subst hx hy
  rw [nI_leI ha hb]
  exact ⟨f, fun z => g (by omega)⟩
theorem pk_lt {x y : Int32} {A B : Prop} (a b : Nat) (f : a < b → A) (g : b ≤ a → B) (hx : x = nI a := by rfl) (hy : y = nI b := by rfl) (ha : a < 2 ^ 31 := by omega) (hb : b < 2 ^ 31 := by omega) : (x < y → A) ∧ (¬ x < y → B) := by
  subst hx hy
  rw [nI_ltI ha hb]
  exact ⟨f, fun z => g (by omega)⟩
theorem pk_eq {x y : Int32} {A B : Prop} (a b : Nat) (f : a = b → A) (g : a ≠ b → B) (hx : x = nI a := by rfl) (hy : y = nI b := by rfl) (ha : a < 2 ^ 31 := by omega) (hb : b < 2 ^ 31 := by omega) : (x = y → A) ∧ (¬ x = y → B) := by
  subst hx hy
  rw [nI_eq ha hb]
  exact ⟨f, g⟩
theorem pk_in {x : Int32} (n N : Nat) (h : n < N) (hx : x = nI n := by rfl) (hN : N < 2 ^ 31 := by omega) : vp_in x N := by
  subst hx
  exact vp_in_nI h hN
theorem pk_cl {x : Int32} (n : Nat) (hx : x = nI n := by rfl) (h : n < 2 ^ 31 := by omega) : x.toNatClampNeg = n := by
  subst hx
  exact nI_clamp h
theorem pk_tn {n : Nat} (h : n < 2 ^ 32) : (nI n).toBitVec.toNat = n := Nat.mod_eq_of_lt h
theorem pk_and (x : Int32) {m : Int32} (k : Nat) (hm : m.toBitVec.toNat = 2 ^ k - 1) : x &&& m = nI (x.toBitVec.toNat % 2 ^ k) := by
  apply Int32.toBitVec_inj.mp
  apply BitVec.eq_of_toNat_eq
  rw [Int32.toBitVec_and, BitVec.toNat_and, hm, Nat.and_two_pow_sub_one_eq_mod]
  show _ = (BitVec.ofNat 32 _).toNat
  rw [BitVec.toNat_ofNat]
  exact (Nat.mod_eq_of_lt (Nat.lt_of_le_of_lt (Nat.mod_le _ _) x.toBitVec.isLt)).symm
theorem pk_andN {n : Nat} (h : n < 2 ^ 32) {m : Int32} (k : Nat) (hm : m.toBitVec.toNat = 2 ^ k - 1) : nI n &&& m = nI (n % 2 ^ k) := by
  rw [pk_and _ k hm, pk_tn h]
theorem pk_shl (a s : Int32) (k : Nat) (hs : (s.toBitVec.smod 32).toNat = k) : (a <<< s).toBitVec.toNat = a.toBitVec.toNat * 2 ^ k % 2 ^ 32 := by
  show (a.toBitVec <<< (s.toBitVec.smod 32).toNat).toNat = _
  rw [hs, BitVec.toNat_shiftLeft, Nat.shiftLeft_eq]
theorem pk_shlN {n : Nat} (s : Int32) (k : Nat) (hs : (s.toBitVec.smod 32).toNat = k) (h : n * 2 ^ k < 2 ^ 32) : nI n <<< s = nI (n * 2 ^ k) := by
  apply Int32.toBitVec_inj.mp
  apply BitVec.eq_of_toNat_eq
  have hn : n < 2 ^ 32 := Nat.lt_of_le_of_lt (Nat.le_mul_of_pos_right n (Nat.two_pow_pos k)) h
  rw [pk_shl _ _ k hs, pk_tn hn, pk_tn h, Nat.mod_eq_of_lt h]
theorem pk_shr (a s : Int32) (k : Nat) (hs : (s.toBitVec.smod 32).toNat = k) : (a >>> s).toInt = a.toInt >>> k := by
  show (a.toBitVec.sshiftRight (s.toBitVec.smod 32).toNat).toInt = _
  rw [hs, BitVec.toInt_sshiftRight]
  rfl
theorem pk_shrN {n : Nat} (h : n < 2 ^ 31) (s : Int32) (k : Nat) (hs : (s.toBitVec.smod 32).toNat = k) : nI n >>> s = nI (n / 2 ^ k) := by
  apply Int32.toInt_inj.mp
  have h2 : n / 2 ^ k ≤ n := Nat.div_le_self _ _
  rw [pk_shr _ _ k hs, nI_toInt h, nI_toInt (by omega), Int.shiftRight_eq_div_pow]
  rfl
theorem s_l : ∀ n, n < 32 → ((nI n &&& 31).toBitVec.smod 32).toNat = n := by decide +kernel
theorem nx_and (a b : Nat) : nI a &&& nI b = nI (a &&& b) := by
  apply Int32.toBitVec_inj.1
  show BitVec.ofNat 32 a &&& BitVec.ofNat 32 b = BitVec.ofNat 32 (a &&& b)
  apply BitVec.eq_of_getLsbD_eq
  intro i hi
  simp [hi]
theorem nx_xor (a b : Nat) : nI a ^^^ nI b = nI (a ^^^ b) := by
  apply Int32.toBitVec_inj.1
  show BitVec.ofNat 32 a ^^^ BitVec.ofNat 32 b = BitVec.ofNat 32 (a ^^^ b)
  apply BitVec.eq_of_getLsbD_eq
  intro i hi
  simp [hi]
end
section
/-! numbers and bits -/
theorem cd_or (a b : Nat) : nI a ||| nI b = nI (a ||| b) := by
  apply Int32.toBitVec_inj.1
  show BitVec.ofNat 32 a ||| BitVec.ofNat 32 b = BitVec.ofNat 32 (a ||| b)
  apply BitVec.eq_of_getLsbD_eq
  intro i hi
  simp [hi]
def cd_b (x k : Nat) : Nat := x / 2 ^ k % 2
theorem cd_b_lt (x k : Nat) : cd_b x k < 2 := Nat.mod_lt _ (by decide)
theorem cd_bit {x k : Nat} (hx : x < 2 ^ 31) (hk : k < 32) : (nI x >>> (nI k &&& 31)) &&& 1 = nI (cd_b x k) := by
  have h : x / 2 ^ k ≤ x := Nat.div_le_self _ _
  rw [pk_shrN hx _ k (s_l k hk), pk_andN (by omega) 1 (by decide)]
  rfl
theorem cd_pow {k : Nat} (hk : k < 31) : (1 : Int32) <<< (nI k &&& 31) = nI (2 ^ k) := by
  have h : 2 ^ k < 2 ^ 32 := Nat.pow_lt_pow_right (by decide) (by omega)
  have e := pk_shlN (n := 1) (nI k &&& 31) k (s_l k (by omega)) (by omega)
  rw [Nat.one_mul] at e
  exact e
theorem cd_neg1 : (-1 : Int32) = nI 4294967295 := by decide +kernel
theorem cd_neg (x : Nat) : nI (4294967295 * x) = - nI x := by
  rw [← pk_mul, ← cd_neg1]
  rw [Int32.neg_mul, Int32.one_mul]
/-! partitions as codes -/
def cd_pt (s i : Nat) : Nat := s / 2 ^ (3 * i) % 8
theorem cd_pt_lt (s i : Nat) : cd_pt s i < 8 := Nat.mod_lt _ (by decide)
theorem cd_part {s i : Nat} (hs : s < 4096) (hi : i < 4) : (nI s >>> ((3 * nI i) &&& 31)) &&& 7 = nI (cd_pt s i) := by
  have h : s / 2 ^ (3 * i) ≤ s := Nat.div_le_self _ _
  have e : (3 : Int32) * nI i = nI (3 * i) := pk_mul 3 i
  rw [e, pk_shrN (by omega) _ (3 * i) (s_l (3 * i) (by omega)), pk_andN (by omega) 3 (by decide)]
  rfl
theorem cd_nar0 : ∀ q, q < 8 → (nI q).toInt8.toInt32 = nI q := by decide +kernel
theorem cd_nar {q : Nat} (hq : q < 8) : vp_nar .byte (nI q) = nI q := by rw [vp_nar_byte, cd_nar0 q hq]
theorem cd_nar2 {q : Nat} (hq : q < 8) : vp_nar .byte (nI q).toInt8.toInt32 = nI q := by rw [cd_nar0 q hq, cd_nar hq]
def cd_ps (s : Nat) : Nat → Nat
  | 0 => 0
  | i + 1 => cd_ps s i + cd_pt s i
theorem cd_ps4 (s : Nat) : cd_ps s 4 = 0 + cd_pt s 0 + cd_pt s 1 + cd_pt s 2 + cd_pt s 3 := rfl
theorem cd_ps_lt (s : Nat) : cd_ps s 4 ≤ 28 := by
  have h0 := cd_pt_lt s 0
  have h1 := cd_pt_lt s 1
  have h2 := cd_pt_lt s 2
  have h3 := cd_pt_lt s 3
  rw [cd_ps4]
  omega
def cd_sv (s : Nat) : Nat := if (cd_pt s 1 ≤ cd_pt s 0 ∧ cd_pt s 2 ≤ cd_pt s 1 ∧ cd_pt s 3 ≤ cd_pt s 2) ∧ cd_ps s 4 ≤ 7 then cd_ps s 4 else 0
theorem cd_sv_big {s : Nat} (h : 7 < cd_ps s 4) : cd_sv s = 0 := if_neg (fun z => by omega)
theorem cd_sv_fall {s i : Nat} (hi : i + 1 < 4) (h : cd_pt s i < cd_pt s (i + 1)) : cd_sv s = 0 := by
  refine if_neg (fun z => ?_)
  obtain ⟨⟨a, b, c⟩, _⟩ := z
  have e : i = 0 ∨ i = 1 ∨ i = 2 := by omega
  rcases e with rfl | rfl | rfl
  · exact Nat.not_lt.mpr a h
  · exact Nat.not_lt.mpr b h
  · exact Nat.not_lt.mpr c h
theorem cd_sv_ok {s : Nat} (hf : ∀ j, j + 1 < 4 → cd_pt s (j + 1) ≤ cd_pt s j) (h : cd_ps s 4 ≤ 7) : cd_sv s = cd_ps s 4 :=
  if_pos ⟨⟨hf 0 (by decide), hf 1 (by decide), hf 2 (by decide)⟩, h⟩
theorem cd_sv_le (s : Nat) : cd_sv s ≤ 7 := by
  unfold cd_sv
  split
  · next h => exact h.2
  · exact Nat.zero_le _
/-- the answer of read and of sumOf -/
def cd_rd (p : Int32) : Int32 := if p < 0 then 0 else if p ≤ 4095 then nI (cd_sv p.toNatClampNeg) else 0
theorem cd_rd_nI {s : Nat} (hs : s < 4096) : cd_rd (nI s) = nI (cd_sv s) := by
  have h1 : ¬ nI s < 0 := nI_pos (by omega)
  have h2 : nI s ≤ 4095 := nI_le (b := 4095) (by omega) (by decide)
  rw [cd_rd, if_neg h1, if_pos h2, nI_clamp (by omega)]
theorem cd_rd_lo {p : Int32} (h : p < 0) : cd_rd p = 0 := if_pos h
theorem cd_rd_hi {p : Int32} (h0 : ¬ p < 0) (h : ¬ p ≤ 4095) : cd_rd p = 0 := by rw [cd_rd, if_neg h0, if_neg h]
theorem cd_in {p : Int32} (h0 : ¬ p < 0) (h : p ≤ 4095) : ∃ s : Nat, s < 4096 ∧ p = nI s := by
  obtain ⟨j, hj, e⟩ := nI_of2 (n := 4095) (by decide) h0 h
  exact ⟨j, by omega, e⟩
theorem cd_rd_ne {p : Int32} (h : ¬ cd_rd p = 0) : ∃ s : Nat, s < 4096 ∧ p = nI s ∧ cd_sv s ≠ 0 ∧ cd_rd p = nI (cd_sv s) := by
  by_cases h0 : p < 0
  · exact absurd (cd_rd_lo h0) h
  · by_cases h1 : p ≤ 4095
    · obtain ⟨s, hs, rfl⟩ := cd_in h0 h1
      refine ⟨s, hs, rfl, fun z => h ?_, cd_rd_nI hs⟩
      rw [cd_rd_nI hs, z]
      exact nI_0
    · exact absurd (cd_rd_hi h0 h1) h
/-- the parts at hand are those of s -/
def cd_Pa (s : Nat) (a : Nat → Int32) : Prop := ∀ j, j < 4 → a j = nI (cd_pt s j)
/-! the marks of a shape -/
def cd_mk (s : Nat) : Nat → Nat
  | 0 => 0
  | i + 1 => cd_mk s i ||| 2 ^ (cd_pt s i + 3 - i)
theorem cd_mk_lt (s : Nat) : ∀ i, cd_mk s i < 2048 := by
  intro i
  induction i with
  | zero => exact (by decide : 0 < 2048)
  | succ i ih =>
    have h := cd_pt_lt s i
    have h2 : 2 ^ (cd_pt s i + 3 - i) < 2 ^ 11 := Nat.pow_lt_pow_right (by decide) (by omega)
    exact Nat.or_lt_two_pow (n := 11) ih h2
/-! the rims wanted -/
def cd_rl (s : Nat) : Nat → List Nat
  | 0 => []
  | i + 1 => if cd_pt s i = 0 then cd_rl s i else cd_rl s i ++ [cd_pt s i]
theorem cd_rl_len (s : Nat) : ∀ i, (cd_rl s i).length ≤ i := by
  intro i
  induction i with
  | zero => exact Nat.le_refl 0
  | succ i ih =>
    show (if cd_pt s i = 0 then cd_rl s i else cd_rl s i ++ [cd_pt s i]).length ≤ i + 1
    split
    · omega
    · rw [List.length_append]
      exact Nat.succ_le_succ ih
theorem cd_rl_in (s : Nat) : ∀ i x, x ∈ cd_rl s i → 1 ≤ x ∧ x ≤ 7 := by
  intro i
  induction i with
  | zero => exact fun x h => nomatch h
  | succ i ih =>
    intro x h
    have h' : x ∈ (if cd_pt s i = 0 then cd_rl s i else cd_rl s i ++ [cd_pt s i]) := h
    split at h'
    · exact ih x h'
    · next hz =>
      rcases List.mem_append.mp h' with h1 | h1
      · exact ih x h1
      · have e : x = cd_pt s i := List.mem_singleton.mp h1
        have := cd_pt_lt s i
        omega
def cd_Ri (L : List Nat) (c : Int32) (r : Nat → Int32) : Prop := c = nI L.length ∧ ∀ j, j < L.length → r j = nI (L.getD j 0)
theorem cd_Ri_put {L : List Nat} {c : Int32} {r : Nat → Int32} {q : Nat} (h : cd_Ri L c r) : cd_Ri (L ++ [q]) (nI (L.length + 1)) (upd r L.length (nI q)) := by
  refine ⟨by rw [List.length_append]; rfl, fun j hj => ?_⟩
  rw [List.length_append] at hj
  have hj' : j < L.length + 1 := hj
  rw [List.getD_eq_getElem?_getD]
  by_cases e : j = L.length
  · rw [e, pk_us, List.getElem?_append_right (Nat.le_refl _), Nat.sub_self]
    rfl
  · rw [pk_un e, List.getElem?_append_left (by omega), h.2 j (by omega), List.getD_eq_getElem?_getD]
end
section
/-! the component's small methods -/
section
variable {post : Int32 → SX → Prop} {fc fr : Int32} {r nw th : Nat → Int32} {s : Nat}
theorem cd_xread_lp (hs : s < 4096) (hK : ∀ a', (cd_sv s ≠ 0 → cd_Pa s a') → post (nI (cd_sv s)) (fc, fr, a', r, nw, th)) :
    ∀ d i a, i + d = 4 → (∀ j, j < i → a j = nI (cd_pt s j)) → (∀ j, j + 1 < i → cd_pt s (j + 1) ≤ cd_pt s j) →
      wX_read_17 post (nI s) fc fr (d + 1) (nI (cd_ps s i)) (nI i) a r nw th := by
  intro d
  induction d with
  | zero =>
    intro i a hi ha hf
    have e : i = 4 := by omega
    subst e
    have hp := cd_ps_lt s
    refine br_t (nI_le (a := 4) (Nat.le_refl 4) (by decide)) (pk_lt 7 (cd_ps s 4) (fun h => ?_) (fun h => ?_))
    · have e := cd_sv_big h
      have k := hK a (fun z => absurd e z)
      rw [e] at k
      exact k
    · have k := hK a (fun _ => ha)
      rw [cd_sv_ok hf h] at k
      exact k
  | succ d ih =>
    intro i a hi ha hf
    have hi4 : i < 4 := by omega
    have hq := cd_pt_lt s i
    have hin : vp_in (nI i) 4 := vp_in_nI hi4 (by decide)
    have hcl : (nI i).toNatClampNeg = i := nI_clamp (by omega)
    have ha' : ∀ j, j < i + 1 → upd a i (nI (cd_pt s i)) j = nI (cd_pt s j) := by
      intro j hj
      by_cases e : j = i
      · rw [e, pk_us]
      · rw [pk_un e, ha j (by omega)]
    refine br_f (nI_ge (b := 4) hi4 (by decide)) ⟨hin, nm_r (e' := upd a i (nI (cd_pt s i))) (by rw [hcl, cd_part hs hi4, cd_nar2 hq]) ⟨hin, nm_r (e' := nI (cd_ps s (i + 1))) (by rw [hcl, pk_us]; exact nI_add _ _) ?_⟩⟩
    cases i with
    | zero => exact br_t (nI_le (Nat.le_refl 0) (by decide)) (nm_r (nI_1 0) (ih 1 _ (by omega) ha' (fun j hj => absurd hj (by omega))))
    | succ i =>
      have hq' := cd_pt_lt s i
      refine br_f (nI_nle (by omega) (by omega)) ⟨hin, ?_⟩
      rw [nI_pred]
      refine ⟨vp_in_nI (by omega) (by decide), ?_⟩
      refine pk_le (cd_pt s (i + 1)) (cd_pt s i) (fun h => ?_) (fun h => ?_) (by rw [hcl]; exact ha' _ (by omega)) (by rw [nI_clamp (by omega)]; exact ha' _ (by omega))
      · refine nm_r (nI_1 (i + 1)) (ih (i + 2) _ (by omega) ha' (fun j hj => ?_))
        by_cases e : j = i
        · rw [e]; exact h
        · exact hf j (by omega)
      · have e := cd_sv_fall hi4 h
        have k := hK (upd a (i + 1) (nI (cd_pt s (i + 1)))) (fun z => absurd e z)
        rw [e] at k
        exact k
theorem cd_xread {a : Nat → Int32} (p : Int32) (hK : ∀ a', (∀ s, s < 4096 → p = nI s → cd_sv s ≠ 0 → cd_Pa s a') → post (cd_rd p) (fc, fr, a', r, nw, th)) : wpX_read post (fc, fr, a, r, nw, th) p := by
  by_cases h0 : p < 0
  · have k := hK a (fun s hs e z => absurd h0 (by rw [e]; exact nI_pos (by omega)))
    rw [cd_rd_lo h0] at k
    exact br_t h0 k
  · by_cases h1 : p ≤ 4095
    · obtain ⟨s, hs, rfl⟩ := cd_in h0 h1
      refine br_f h0 (br_t h1 ⟨5, cd_xread_lp hs (fun a' ha' => ?_) 4 0 a rfl (fun j hj => absurd hj (by omega)) (fun j hj => absurd hj (by omega))⟩)
      have k := hK a' (fun s' hs' e z => ?_)
      · rw [cd_rd_nI hs] at k
        exact k
      · have e' : s = s' := (nI_eq (by omega) (by omega)).mp e
        rw [← e'] at z ⊢
        exact ha' z
    · have k := hK a (fun s hs e z => absurd h1 (fun z => z (by rw [e]; exact nI_le (b := 4095) (by omega) (by decide))))
      rw [cd_rd_hi h0 h1] at k
      exact br_f h0 (br_f h1 k)
end
section
variable {post : Int32 → Prop} {fc fr : Int32} {a r nw th : Nat → Int32} {s : Nat}
theorem cd_xmarks_lp (ha : cd_Pa s a) (hK : post (nI (cd_mk s 4))) :
    ∀ d i, i + d = 4 → wX_marks_4 post fc fr a r nw th (d + 1) (nI (cd_mk s i)) (nI i) := by
  intro d
  induction d with
  | zero =>
    intro i hi
    have e : i = 4 := by omega
    subst e
    exact br_t (nI_le (a := 4) (Nat.le_refl 4) (by decide)) hK
  | succ d ih =>
    intro i hi
    have hi4 : i < 4 := by omega
    have hq := cd_pt_lt s i
    have hcl : (nI i).toNatClampNeg = i := nI_clamp (by omega)
    refine br_f (nI_ge (b := 4) hi4 (by decide)) ⟨vp_in_nI hi4 (by decide), nm_r (e' := nI (cd_mk s (i + 1))) ?_ (nm_r (nI_1 i) (ih (i + 1) (by omega)))⟩
    have e1 : nI (cd_pt s i) + 4 = nI (cd_pt s i + 4) := nI_add _ 4
    have e2 : nI (cd_pt s i + 4) - 1 = nI (cd_pt s i + 3) := nI_pred _
    rw [hcl, ha i hi4, e1, e2, pk_sub (by omega), cd_pow (by omega), cd_or]
    rfl
theorem cd_xmarks (ha : cd_Pa s a) (hK : post (nI (cd_mk s 4))) : wpX_marks post (fc, fr, a, r, nw, th) :=
  ⟨5, cd_xmarks_lp ha hK 4 0 rfl⟩
end
section
variable {post : SX → Prop} {fc : Int32} {a nw th : Nat → Int32} {s : Nat}
theorem cd_xwp_lp (ha : cd_Pa s a) (hK : ∀ c' r', cd_Ri (cd_rl s 4) c' r' → post (fc, c', a, r', nw, th)) :
    ∀ d i c r, i + d = 4 → cd_Ri (cd_rl s i) c r → wX_wantParts_7 post fc (d + 1) (nI i) c a r nw th := by
  intro d
  induction d with
  | zero =>
    intro i c r hi hR
    have e : i = 4 := by omega
    subst e
    exact br_t (nI_le (a := 4) (Nat.le_refl 4) (by decide)) (hK c r hR)
  | succ d ih =>
    intro i c r hi hR
    have hi4 : i < 4 := by omega
    have hq := cd_pt_lt s i
    have hcl : (nI i).toNatClampNeg = i := nI_clamp (by omega)
    have hin : vp_in (nI i) 4 := vp_in_nI hi4 (by decide)
    have hlen := cd_rl_len s i
    have ei : a (nI i).toNatClampNeg = nI (cd_pt s i) := by rw [hcl]; exact ha i hi4
    refine br_f (nI_ge (b := 4) hi4 (by decide)) ⟨hin, pk_le (cd_pt s i) 0 (fun h => ?_) (fun h => ?_) ei⟩
    · refine nm_r (nI_1 i) (ih (i + 1) c r (by omega) ?_)
      have e : cd_rl s (i + 1) = cd_rl s i := if_pos (by omega)
      rw [e]
      exact hR
    · have e : cd_rl s (i + 1) = cd_rl s i ++ [cd_pt s i] := if_neg (by omega)
      have hc := hR.1
      subst hc
      refine ⟨hin, vp_in_nI (by omega) (by decide), nm_r (e' := upd r (cd_rl s i).length (nI (cd_pt s i))) ?_ (nm_r (nI_1 _) (nm_r (nI_1 i) (ih (i + 1) _ _ (by omega) ?_)))⟩
      · rw [ei, nI_clamp (by omega), cd_nar hq]
      · rw [e]
        exact cd_Ri_put hR
theorem cd_xwp {fr : Int32} {r : Nat → Int32} (ha : cd_Pa s a) (hK : ∀ c' r', cd_Ri (cd_rl s 4) c' r' → post (fc, c', a, r', nw, th)) : wpX_wantParts post (fc, fr, a, r, nw, th) :=
  ⟨5, cd_xwp_lp ha hK 4 0 0 r rfl ⟨rfl, fun j hj => absurd hj (by exact Nat.not_lt_zero j)⟩⟩
theorem cd_xwo_lp {n : Nat} {fr : Int32} (hn : n ≤ 7) (hK : ∀ r', (∀ j, j < n → r' j = 1) → post (fc, fr, a, r', nw, th)) :
    ∀ d i r, i + d = n → (∀ j, j < i → r j = 1) → wX_wantOnes_7 post (nI n) fc fr (d + 1) (nI i) a r nw th := by
  intro d
  induction d with
  | zero =>
    intro i r hi hR
    have e : i = n := by omega
    subst e
    exact br_t (nI_le (Nat.le_refl i) (by omega)) (hK r hR)
  | succ d ih =>
    intro i r hi hR
    refine br_f (nI_ge (by omega) (by omega)) ⟨vp_in_nI (by omega) (by decide), nm_r (e' := upd r i 1) ?_ (nm_r (nI_1 i) (ih (i + 1) _ (by omega) ?_))⟩
    · rw [nI_clamp (by omega)]
      exact congrArg (upd r i) (cd_nar (q := 1) (by decide))
    · intro j hj
      by_cases e : j = i
      · rw [e, pk_us]
      · rw [pk_un e, hR j (by omega)]
theorem cd_xwo {n : Nat} {fr : Int32} {r : Nat → Int32} (hn : n ≤ 7) (hK : ∀ r', cd_Ri (List.replicate n 1) (nI n) r' → post (fc, nI n, a, r', nw, th)) : wpX_wantOnes post (fc, fr, a, r, nw, th) (nI n) := by
  refine ⟨n + 1, cd_xwo_lp hn (fun r' hr' => hK r' ⟨by rw [List.length_replicate], fun j hj => ?_⟩) n 0 r (by omega) (fun j hj => absurd hj (by omega))⟩
  rw [List.length_replicate] at hj
  rw [hr' j hj, List.getD_eq_getElem?_getD, List.getElem?_replicate, if_pos hj]
  rfl
end
/-! between -/
def cd_bc (x lo : Nat) : Nat → Nat
  | 0 => 0
  | k + 1 => cd_bc x lo k + cd_b x (lo + 1 + k)
theorem cd_xbw_lp {post : Int32 → Prop} {x lo K : Nat} (hx : x < 2048) (hK : lo + 1 + K ≤ 31) (hp : post (nI (cd_bc x lo K))) :
    ∀ d k, k + d = K → wX_between_7 post (nI x) (nI (lo + 1 + K)) (d + 1) (nI (cd_bc x lo k)) (nI (lo + 1 + k)) := by
  intro d
  induction d with
  | zero =>
    intro k hk
    have e : k = K := by omega
    subst e
    exact br_t (nI_le (Nat.le_refl _) (by omega)) hp
  | succ d ih =>
    intro k hk
    refine br_f (nI_ge (by omega) (by omega)) (nm_r (e' := nI (cd_bc x lo (k + 1))) ?_ (nm_r (nI_1 _) (ih (k + 1) (by omega))))
    rw [cd_bit (by omega) (by omega), nI_add]
    rfl
theorem cd_xbw {post : Int32 → Prop} {x lo hi K : Nat} (hx : x < 2048) (e : hi = lo + 1 + K) (hK : hi ≤ 31) (hp : post (nI (cd_bc x lo K))) : wpX_between post (nI x) (nI lo) (nI hi) := by
  subst e
  exact nm_r (nI_1 lo) ⟨K + 1, cd_xbw_lp hx hK hp K 0 (by omega)⟩
end
section
/-! sums over an array -/
def cd_ip (a : Nat → Int32) (g : Nat → Nat) : Nat → Int32
  | 0 => 0
  | n + 1 => cd_ip a g n + a n * nI (g n)
theorem cd_ip_s (a : Nat → Int32) (g : Nat → Nat) (n : Nat) : cd_ip a g (n + 1) = cd_ip a g n + a n * nI (g n) := rfl
theorem cd_ip_cong {a b : Nat → Int32} {g : Nat → Nat} : ∀ n, (∀ j, j < n → a j = b j) → cd_ip a g n = cd_ip b g n := by
  intro n
  induction n with
  | zero => exact fun _ => rfl
  | succ n ih =>
    intro h
    rw [cd_ip_s, cd_ip_s, ih (fun j hj => h j (by omega)), h n (by omega)]
theorem cd_ip_zero {a : Nat → Int32} {g : Nat → Nat} : ∀ n, (∀ j, j < n → a j = 0) → cd_ip a g n = 0 := by
  intro n
  induction n with
  | zero => exact fun _ => rfl
  | succ n ih =>
    intro h
    rw [cd_ip_s, ih (fun j hj => h j (by omega)), h n (by omega), Int32.zero_mul, Int32.zero_add]
theorem cd_ip_upd {a : Nat → Int32} {g : Nat → Nat} {k : Nat} {v : Int32} : ∀ n, k < n → cd_ip (upd a k (a k + v)) g n = cd_ip a g n + v * nI (g k) := by
  intro n
  induction n with
  | zero => exact fun h => absurd h (Nat.not_lt_zero k)
  | succ n ih =>
    intro h
    rw [cd_ip_s, cd_ip_s]
    by_cases e : k = n
    · subst e
      rw [pk_us, cd_ip_cong k (b := a) (fun j hj => pk_un (by omega)), Int32.add_mul, Int32.add_assoc]
    · rw [pk_un (fun z => e z.symm), ih (by omega), Int32.add_assoc, Int32.add_assoc, Int32.add_comm (v * _)]
theorem cd_ip_one {a : Nat → Int32} {g : Nat → Nat} {k n : Nat} (h : ∀ j, j < n → a j = 0) (hk : k < n) : cd_ip (upd a k 1) g n = nI (g k) := by
  have e : (1 : Int32) = a k + 1 := by rw [h k hk, Int32.zero_add]
  have e2 : upd a k 1 = upd a k (a k + 1) := congrArg (upd a k) e
  rw [e2, cd_ip_upd n hk, cd_ip_zero n h, Int32.one_mul, Int32.zero_add]
def cd_dl (k j : Nat) : Nat := if j = k then 1 else 0
theorem cd_ip_dl0 {a : Nat → Int32} {k : Nat} : ∀ n, n ≤ k → cd_ip a (cd_dl k) n = 0 := by
  intro n
  induction n with
  | zero => exact fun _ => rfl
  | succ n ih =>
    intro h
    have e : cd_dl k n = 0 := if_neg (by omega)
    rw [cd_ip_s, ih (by omega), e, nI_0, Int32.mul_zero, Int32.zero_add]
theorem cd_ip_dl {a : Nat → Int32} {k : Nat} : ∀ n, k < n → cd_ip a (cd_dl k) n = a k := by
  intro n
  induction n with
  | zero => exact fun h => absurd h (Nat.not_lt_zero k)
  | succ n ih =>
    intro h
    rw [cd_ip_s]
    by_cases e : k = n
    · subst e
      have e1 : cd_dl k k = 1 := if_pos rfl
      rw [cd_ip_dl0 k (Nat.le_refl k), e1, Int32.zero_add]
      exact Int32.mul_one _
    · have e1 : cd_dl k n = 0 := if_neg (fun z => e z.symm)
      rw [ih (by omega), e1, nI_0, Int32.mul_zero, Int32.add_zero]
/-! one move, all moves of a set -/
def cd_nx (x b t : Nat) : Nat := (x &&& (2 ^ b ^^^ 4294967295)) ||| 2 ^ t
theorem cd_nx_lt {x b t : Nat} (hx : x < 2048) (ht : t < 11) : cd_nx x b t < 2048 := by
  have h1 : x &&& (2 ^ b ^^^ 4294967295) < 2 ^ 11 := Nat.lt_of_le_of_lt Nat.and_le_left hx
  have h2 : 2 ^ t < 2 ^ 11 := Nat.pow_lt_pow_right (by decide) ht
  exact Nat.or_lt_two_pow (n := 11) h1 h2
theorem cd_nx_nI {x b t : Nat} (hb : b < 31) (ht : t < 31) : (nI x &&& (((1 : Int32) <<< (nI b &&& 31)) ^^^ (-1))) ||| ((1 : Int32) <<< (nI t &&& 31)) = nI (cd_nx x b t) := by
  rw [cd_pow hb, cd_pow ht, cd_neg1, nx_xor, nx_and, cd_or]
  rfl
/-- what the mark r + k gives when it moves down to k -/
def cd_tm (r : Nat) (g : Nat → Nat) (x k : Nat) : Nat :=
  if cd_b x (r + k) = 0 then 0 else if cd_b x k = 0 then (if cd_bc x k (r - 1) % 2 = 0 then g (cd_nx x (r + k) k) else 4294967295 * g (cd_nx x (r + k) k)) else 0
def cd_mv (r : Nat) (g : Nat → Nat) (x : Nat) : Nat → Nat
  | 0 => 0
  | k + 1 => cd_mv r g x k + cd_tm r g x k
def cd_M (r : Nat) (g : Nat → Nat) (x : Nat) : Nat := cd_mv r g x (11 - r)
section
variable {post : SX → Prop} {fc fr : Int32} {a rr nw th : Nat → Int32} {x r : Nat}
theorem cd_mv_step {th1 th2 : Nat → Int32} {k : Nat} {v : Int32} (h : ∀ g, cd_ip th1 g 2048 = cd_ip th g 2048 + v * nI (cd_mv r g x k))
    (h2 : ∀ g, cd_ip th2 g 2048 = cd_ip th1 g 2048 + v * nI (cd_tm r g x k)) : ∀ g, cd_ip th2 g 2048 = cd_ip th g 2048 + v * nI (cd_mv r g x (k + 1)) := by
  intro g
  have e : nI (cd_mv r g x (k + 1)) = nI (cd_mv r g x k) + nI (cd_tm r g x k) := (nI_add _ _).symm
  rw [h2 g, h g, e, Int32.mul_add, Int32.add_assoc]
theorem cd_mv_stay {th1 : Nat → Int32} {k : Nat} {v : Int32} (h : ∀ g, cd_ip th1 g 2048 = cd_ip th g 2048 + v * nI (cd_mv r g x k))
    (h2 : ∀ g, cd_tm r g x k = 0) : ∀ g, cd_ip th1 g 2048 = cd_ip th g 2048 + v * nI (cd_mv r g x (k + 1)) := by
  refine cd_mv_step h (fun g => ?_)
  rw [h2 g, nI_0, Int32.mul_zero, Int32.add_zero]
theorem cd_xmove_lp (hx : x < 2048) (hr : 1 ≤ r) (hr7 : r ≤ 7) (hK : ∀ th', (∀ g, cd_ip th' g 2048 = cd_ip th g 2048 + nw x * nI (cd_M r g x)) → post (fc, fr, a, rr, nw, th')) :
    ∀ d k th1, k + d = 11 - r → (∀ g, cd_ip th1 g 2048 = cd_ip th g 2048 + nw x * nI (cd_mv r g x k)) →
      wX_move_2 post (nI x) (nI r) fc fr (d + 1) (nI (r + k)) a rr nw th1 := by
  intro d
  induction d with
  | zero =>
    intro k th1 hk h
    have e : k = 11 - r := by omega
    subst e
    exact br_t (nI_le (a := 11) (by omega) (by omega)) (hK th1 h)
  | succ d ih =>
    intro k th1 hk h
    have hb1 := cd_b_lt x (r + k)
    have hb2 := cd_b_lt x k
    have ih' := fun th2 (h2 : ∀ g, cd_ip th2 g 2048 = cd_ip th g 2048 + nw x * nI (cd_mv r g x (k + 1))) => ih (k + 1) th2 (by omega) h2
    have e4 : nI (r + k) - nI r = nI k := by
      rw [pk_sub (by omega)]
      exact congrArg nI (by omega)
    have e3 : nI (r + k) + 1 = nI (r + (k + 1)) := nI_1 (r + k)
    have hnl := cd_nx_lt (b := r + k) hx (show k < 11 by omega)
    have hinx : vp_in (nI x) 2048 := vp_in_nI hx (by decide)
    have hinn : vp_in (nI (cd_nx x (r + k) k)) 2048 := vp_in_nI hnl (by decide)
    have hclx : (nI x).toNatClampNeg = x := nI_clamp (by omega)
    have hcln : (nI (cd_nx x (r + k) k)).toNatClampNeg = cd_nx x (r + k) k := nI_clamp (by omega)
    refine br_f (nI_ge (b := 11) (by omega) (by decide)) (nm_r e4 ?_)
    refine pk_eq (cd_b x (r + k)) 0 (fun z => ?_) (fun z => ?_) (cd_bit (by omega) (by omega))
    · exact nm_r e3 (ih' th1 (cd_mv_stay h (fun g => if_pos z)))
    · refine pk_eq (cd_b x k) 0 (fun z2 => ?_) (fun z2 => ?_) (cd_bit (by omega) (by omega))
      · refine cd_xbw (K := r - 1) hx (by omega) (by omega) ?_
        refine nm_r (e' := nI (cd_nx x (r + k) k)) (cd_nx_nI (by omega) (by omega)) ⟨hinn, ?_⟩
        have hbl : cd_bc x k (r - 1) % 2 < 2 := Nat.mod_lt _ (by decide)
        have ebc : nI (cd_bc x k (r - 1)) &&& 1 = nI (cd_bc x k (r - 1) % 2) := by
          have e1 := nx_and (cd_bc x k (r - 1)) 1
          rw [Nat.and_one_is_mod] at e1
          exact e1
        refine pk_eq (cd_bc x k (r - 1) % 2) 0 (fun z3 => ?_) (fun z3 => ?_) ebc
        · refine ⟨hinx, hinn, nm_r (e' := upd th1 (cd_nx x (r + k) k) (th1 (cd_nx x (r + k) k) + nw x)) (by rw [hclx, hcln]) (nm_r e3 (ih' _ (cd_mv_step h (fun g => ?_))))⟩
          have et : cd_tm r g x k = g (cd_nx x (r + k) k) := by
            rw [cd_tm, if_neg z, if_pos z2, if_pos z3]
          rw [et]
          exact cd_ip_upd 2048 hnl
        · refine ⟨hinx, hinn, nm_r (e' := upd th1 (cd_nx x (r + k) k) (th1 (cd_nx x (r + k) k) + - nw x)) (by rw [hclx, hcln]) (nm_r e3 (ih' _ (cd_mv_step h (fun g => ?_))))⟩
          have et : cd_tm r g x k = 4294967295 * g (cd_nx x (r + k) k) := by
            rw [cd_tm, if_neg z, if_pos z2, if_neg z3]
          rw [et, cd_neg, cd_ip_upd 2048 hnl]
          congr 1
          rw [Int32.mul_neg, Int32.neg_mul]
      · exact nm_r e3 (ih' th1 (cd_mv_stay h (fun g => by rw [cd_tm, if_neg z, if_neg z2])))
theorem cd_xmove (hx : x < 2048) (hr : 1 ≤ r) (hr7 : r ≤ 7) (hK : ∀ th', (∀ g, cd_ip th' g 2048 = cd_ip th g 2048 + nw x * nI (cd_M r g x)) → post (fc, fr, a, rr, nw, th')) : wpX_move post (fc, fr, a, rr, nw, th) (nI x) (nI r) := by
  refine ⟨11 - r + 1, cd_xmove_lp hx hr hr7 hK (11 - r) 0 th (by omega) (fun g => ?_)⟩
  have e : nI (cd_mv r g x 0) = 0 := nI_0
  rw [e, Int32.mul_zero, Int32.add_zero]
end
end
section
/-! strip -/
def cd_ev : List Nat → Nat → Nat
  | [], x => cd_dl 15 x
  | r :: L, x => cd_M r (cd_ev L) x
section
variable {post : Int32 → SX → Prop} {J : Int32 → Int32 → Int32 → (Nat → Int32) → (Nat → Int32) → (Nat → Int32) → (Nat → Int32) → Prop} {x2 fc fr : Int32} {a rr th : Nat → Int32}
theorem cd_98 (hJ : ∀ nw', (∀ j, j < 2048 → nw' j = th j) → J (x2 + 1) fc fr a rr nw' th) :
    ∀ d i nw, i + d = 2048 → (∀ j, j < i → nw j = th j) → wX_strip_98 post J x2 fc fr (d + 1) (nI i) a rr nw th := by
  intro d
  induction d with
  | zero =>
    intro i nw hi h
    have e : i = 2048 := by omega
    subst e
    exact br_t (nI_le (a := 2048) (Nat.le_refl _) (by decide)) (nm_e (hJ nw h))
  | succ d ih =>
    intro i nw hi h
    have hin : vp_in (nI i) 2048 := vp_in_nI (by omega) (by decide)
    refine br_f (nI_ge (b := 2048) (by omega) (by decide)) ⟨hin, hin, nm_r (e' := upd nw i (th i)) (by rw [nI_clamp (by omega)]) (nm_r (nI_1 i) (ih (i + 1) _ (by omega) (fun j hj => ?_)))⟩
    by_cases e : j = i
    · rw [e, pk_us]
    · rw [pk_un e, h j (by omega)]
theorem cd_63 {nw : Nat → Int32} {r k : Nat} (hr : 1 ≤ r) (hr7 : r ≤ 7) (hk : k < 8) (hrr : rr k = nI r)
    (hJ : ∀ nw' th', (∀ g, cd_ip nw' g 2048 = cd_ip nw (cd_M r g) 2048) → J (nI k + 1) fc fr a rr nw' th') :
    ∀ d t th1, t + d = 2048 → (∀ g, cd_ip th1 g 2048 = cd_ip nw (cd_M r g) t) → wX_strip_63 post J (nI k) (d + 1) (nI t) fc fr a rr nw th1 := by
  intro d
  induction d with
  | zero =>
    intro t th1 ht h
    have e : t = 2048 := by omega
    subst e
    refine br_t (nI_le (a := 2048) (Nat.le_refl _) (by decide)) ⟨2048 + 1, cd_98 (fun nw' h' => hJ nw' th1 (fun g => ?_)) 2048 0 nw rfl (fun j hj => absurd hj (Nat.not_lt_zero j))⟩
    rw [cd_ip_cong 2048 h', h g]
  | succ d ih =>
    intro t th1 ht h
    have hin : vp_in (nI t) 2048 := vp_in_nI (by omega) (by decide)
    have hcl : (nI t).toNatClampNeg = t := nI_clamp (by omega)
    refine br_f (nI_ge (b := 2048) (by omega) (by decide)) ⟨hin, ?_⟩
    rw [hcl]
    refine br_c (fun z => nm_r (nI_1 t) (ih (t + 1) th1 (by omega) (fun g => ?_))) (fun z => ⟨vp_in_nI hk (by decide), ?_⟩)
    · rw [cd_ip_s nw (cd_M r g) t, z, Int32.zero_mul, Int32.add_zero, h g]
    · rw [nI_clamp (by omega), hrr]
      refine cd_xmove (by omega) hr hr7 (fun th' h' => nm_r (nI_1 t) (ih (t + 1) th' (by omega) (fun g => ?_)))
      rw [h' g, h g]
      rfl
theorem cd_41 {nw : Nat → Int32} {r k : Nat} (hr : 1 ≤ r) (hr7 : r ≤ 7) (hk : k < 8) (hrr : rr k = nI r)
    (hJ : ∀ nw' th', (∀ g, cd_ip nw' g 2048 = cd_ip nw (cd_M r g) 2048) → J (nI k + 1) fc fr a rr nw' th') :
    ∀ d i th1, i + d = 2048 → (∀ j, j < i → th1 j = 0) → wX_strip_41 post J (nI k) fc fr (d + 1) (nI i) a rr nw th1 := by
  intro d
  induction d with
  | zero =>
    intro i th1 hi h
    have e : i = 2048 := by omega
    subst e
    exact br_t (nI_le (a := 2048) (Nat.le_refl _) (by decide)) ⟨2048 + 1, cd_63 hr hr7 hk hrr hJ 2048 0 th1 rfl (fun g => cd_ip_zero 2048 h)⟩
  | succ d ih =>
    intro i th1 hi h
    have hin : vp_in (nI i) 2048 := vp_in_nI (by omega) (by decide)
    refine br_f (nI_ge (b := 2048) (by omega) (by decide)) ⟨hin, nm_r (e' := upd th1 i 0) (by rw [nI_clamp (by omega)]) (nm_r (nI_1 i) (ih (i + 1) _ (by omega) (fun j hj => ?_)))⟩
    by_cases e : j = i
    · rw [e, pk_us]
    · rw [pk_un e, h j (by omega)]
end
section
variable {post : Int32 → SX → Prop} {fc fr : Int32} {a rr : Nat → Int32} {L : List Nat} {x : Nat}
theorem cd_31 (hL : ∀ r, r ∈ L → 1 ≤ r ∧ r ≤ 7) (hl : L.length ≤ 8) (hR : cd_Ri L fr rr) (hK : ∀ nw' th', post (nI (cd_ev L x)) (fc, fr, a, rr, nw', th')) :
    ∀ d k nw th, k + d = L.length → cd_ip nw (cd_ev (L.drop k)) 2048 = nI (cd_ev L x) → wX_strip_31 post (d + 1) (nI k) fc fr a rr nw th := by
  intro d
  induction d with
  | zero =>
    intro k nw th hk h
    have e : k = L.length := by omega
    subst e
    have hc := hR.1
    rw [List.drop_length] at h
    have h15 : nw 15 = nI (cd_ev L x) := by
      rw [← h]
      exact (cd_ip_dl (k := 15) 2048 (by decide)).symm
    have k := hK nw th
    rw [← h15] at k
    refine br_t ?_ k
    rw [hc]
    exact nI_le (Nat.le_refl _) (by omega)
  | succ d ih =>
    intro k nw th hk h
    have hkl : k < L.length := by omega
    have hc := hR.1
    have hrk := hR.2 k hkl
    have eg : L.getD k 0 = L[k] := by
      rw [List.getD_eq_getElem?_getD, List.getElem?_eq_getElem hkl]
      rfl
    rw [eg] at hrk
    obtain ⟨h1, h7⟩ := hL _ (List.getElem_mem hkl)
    rw [List.drop_eq_getElem_cons hkl] at h
    refine br_f (by rw [hc]; exact nI_ge hkl (by omega)) ⟨2048 + 1, cd_41 h1 h7 (by omega) hrk (fun nw' th' h' => ?_) 2048 0 th rfl (fun j hj => absurd hj (Nat.not_lt_zero j))⟩
    rw [nI_1]
    refine ih (k + 1) nw' th' (by omega) ?_
    rw [h', ← h]
    rfl
theorem cd_2 (hx : x < 2048) (hL : ∀ r, r ∈ L → 1 ≤ r ∧ r ≤ 7) (hl : L.length ≤ 8) (hR : cd_Ri L fr rr) (hK : ∀ nw' th', post (nI (cd_ev L x)) (fc, fr, a, rr, nw', th')) :
    ∀ d i nw th, i + d = 2048 → (∀ j, j < i → nw j = 0) → wX_strip_2 post (nI x) fc fr (d + 1) (nI i) a rr nw th := by
  intro d
  induction d with
  | zero =>
    intro i nw th hi h
    have e : i = 2048 := by omega
    subst e
    refine br_t (nI_le (a := 2048) (Nat.le_refl _) (by decide)) ⟨vp_in_nI hx (by decide), nm_r (e' := upd nw x 1) (by rw [nI_clamp (by omega)]) ⟨L.length + 1, cd_31 (x := x) hL hl hR hK L.length 0 _ th (by omega) ?_⟩⟩
    rw [List.drop_zero]
    exact cd_ip_one h hx
  | succ d ih =>
    intro i nw th hi h
    refine br_f (nI_ge (b := 2048) (by omega) (by decide)) ⟨vp_in_nI (by omega) (by decide), nm_r (e' := upd nw i 0) (by rw [nI_clamp (by omega)]) (nm_r (nI_1 i) (ih (i + 1) _ th (by omega) (fun j hj => ?_)))⟩
    by_cases e : j = i
    · rw [e, pk_us]
    · rw [pk_un e, h j (by omega)]
theorem cd_xstrip {nw th : Nat → Int32} (hx : x < 2048) (hL : ∀ r, r ∈ L → 1 ≤ r ∧ r ≤ 7) (hl : L.length ≤ 8) (hR : cd_Ri L fr rr) (hK : ∀ nw' th', post (nI (cd_ev L x)) (fc, fr, a, rr, nw', th')) :
    wpX_strip post (fc, fr, a, rr, nw, th) (nI x) :=
  ⟨2048 + 1, cd_2 hx hL hl hR hK 2048 0 nw th rfl (fun j hj => absurd hj (Nat.not_lt_zero j))⟩
end
end
section
/-! the reference's sumOf -/
section
variable {post : Int32 → Prop} {fc : Int32} {po ne : Nat → Int32} {s : Nat}
theorem cd_ysum_b (hp : post 0) : ∀ d i x3, i + d = 4 → wY_sumOf_25 post (nI s) fc po ne (d + 1) 0 x3 (nI i) := by
  intro d
  induction d with
  | zero =>
    intro i x3 hi
    have e : i = 4 := by omega
    subst e
    exact br_t (nI_le (a := 4) (Nat.le_refl 4) (by decide)) (br_t rfl hp)
  | succ d ih =>
    intro i x3 hi
    refine br_f (nI_ge (b := 4) (by omega) (by decide)) (br_t rfl ?_)
    exact nm_e (nm_r (nI_1 i) (ih (i + 1) _ (by omega)))
theorem cd_ysum_a (hs : s < 4096) (hp : post (nI (cd_sv s))) : ∀ d i, i + 1 + d = 4 → (∀ j, j + 1 < i + 1 → cd_pt s (j + 1) ≤ cd_pt s j) →
    wY_sumOf_25 post (nI s) fc po ne (d + 1) 1 (nI (cd_ps s (i + 1))) (nI (i + 1)) := by
  intro d
  induction d with
  | zero =>
    intro i hi hf
    have e : i = 3 := by omega
    subst e
    have hl := cd_ps_lt s
    refine br_t (nI_le (a := 4) (Nat.le_refl 4) (by decide)) (br_f (by decide) (pk_lt 7 (cd_ps s 4) (fun h => ?_) (fun h => ?_)))
    · have k := hp
      rw [cd_sv_big h] at k
      exact k
    · have k := hp
      rw [cd_sv_ok hf h] at k
      exact k
  | succ d ih =>
    intro i hi hf
    have hq := cd_pt_lt s i
    have hq1 := cd_pt_lt s (i + 1)
    refine br_f (nI_ge (b := 4) (by omega) (by decide)) (br_f (by decide) ?_)
    show ((nI s >>> ((3 * (nI (i + 1) - 1)) &&& 31)) &&& 7 < (nI s >>> ((3 * nI (i + 1)) &&& 31)) &&& 7 → _) ∧ (¬ (nI s >>> ((3 * (nI (i + 1) - 1)) &&& 31)) &&& 7 < (nI s >>> ((3 * nI (i + 1)) &&& 31)) &&& 7 → _)
    refine pk_lt (cd_pt s i) (cd_pt s (i + 1)) (fun h => ?_) (fun h => ?_) (by rw [nI_pred]; exact cd_part hs (by omega)) (cd_part hs (by omega))
    · have e := cd_sv_fall (by omega) h
      have k := hp
      rw [e] at k
      exact nm_e (nm_r (nI_1 (i + 1)) (cd_ysum_b k _ _ _ (by omega)))
    · refine nm_r (e' := nI (cd_ps s (i + 2))) (by rw [cd_part hs (by omega)]; exact nI_add _ _) (nm_r (nI_1 (i + 1)) (ih (i + 1) (by omega) (fun j hj => ?_)))
      by_cases e : j = i
      · rw [e]; exact h
      · exact hf j (by omega)
theorem cd_ysum (p : Int32) (hp : post (cd_rd p)) : wpY_sumOf post (fc, po, ne) p := by
  by_cases h0 : p < 0
  · rw [cd_rd_lo h0] at hp
    exact br_t h0 hp
  · by_cases h1 : p ≤ 4095
    · obtain ⟨s, hs, rfl⟩ := cd_in h0 h1
      rw [cd_rd_nI hs] at hp
      refine br_f h0 (br_t h1 ⟨3 + 1, ?_⟩)
      have e : (nI s >>> ((3 * (0 : Int32)) &&& 31)) &&& 7 = nI (cd_ps s 1) := by
        have e1 := cd_part (i := 0) hs (by decide)
        have e2 : cd_ps s 1 = cd_pt s 0 := Nat.zero_add _
        rw [e2]
        exact e1
      rw [e]
      exact cd_ysum_a hs hp 3 0 rfl (fun j hj => absurd hj (by omega))
    · rw [cd_rd_hi h0 h1] at hp
      exact br_f h0 (br_f h1 hp)
end
end
section
/-! times: the coefficients as a function -/
def cd_Rp (F : Nat → Nat) (po : Nat → Int32) : Prop := ∀ c, c < 2744 → po c = nI (F c)
def cd_sh (F : Nat → Nat) (k w c : Nat) : Nat := if k ≤ c then w * F (c - k) else 0
def cd_sp (F : Nat → Nat) (k w t c : Nat) : Nat := if k ≤ c ∧ c < t + k then w * F (c - k) else 0
theorem cd_sp_0 (F : Nat → Nat) (k w c : Nat) : cd_sp F k w 0 c = 0 := if_neg (by omega)
theorem cd_sp_e {F : Nat → Nat} {k w t c : Nat} (h : c < t) : cd_sp F k w t c = cd_sh F k w c := by
  unfold cd_sp cd_sh
  by_cases e : k ≤ c
  · rw [if_pos e, if_pos ⟨e, by omega⟩]
  · rw [if_neg e, if_neg (fun z => e z.1)]
theorem cd_sp_s (F : Nat → Nat) (k w t c : Nat) : cd_sp F k w (t + 1) c = cd_sp F k w t c + (if c = t + k then w * F t else 0) := by
  unfold cd_sp
  by_cases e : c = t + k
  · rw [if_pos e, if_pos ⟨by omega, by omega⟩, if_neg (by omega), Nat.zero_add, e, Nat.add_sub_cancel]
  · rw [if_neg e]
    by_cases h : k ≤ c ∧ c < t + k
    · rw [if_pos h, if_pos ⟨h.1, by omega⟩, Nat.add_zero]
    · rw [if_neg h, if_neg (by omega)]
def cd_ga (p w x y z : Nat) (F : Nat → Nat) (c : Nat) : Nat := cd_sh F p w c + cd_sh F (14 * p) x c + cd_sh F (196 * p) y c + cd_sh F 0 z c
def cd_gp (p w x y z : Nat) (F : Nat → Nat) (t c : Nat) : Nat := cd_sp F p w t c + cd_sp F (14 * p) x t c + cd_sp F (196 * p) y t c + cd_sp F 0 z t c
theorem cd_gp_e {p w x y z : Nat} {F : Nat → Nat} {t c : Nat} (h : c < t) : cd_gp p w x y z F t c = cd_ga p w x y z F c := by
  unfold cd_gp cd_ga
  rw [cd_sp_e h, cd_sp_e h, cd_sp_e h, cd_sp_e h]
theorem cd_gp_0 (p w x y z : Nat) (F : Nat → Nat) (c : Nat) : cd_gp p w x y z F 0 c = 0 := by
  unfold cd_gp
  rw [cd_sp_0, cd_sp_0, cd_sp_0, cd_sp_0]
def cd_at (k v c : Nat) : Nat := if c = k then v else 0
theorem cd_gp_s (p w x y z : Nat) (F : Nat → Nat) (t c : Nat) : cd_gp p w x y z F (t + 1) c = cd_gp p w x y z F t c + cd_at (t + p) (w * F t) c + cd_at (t + 14 * p) (x * F t) c + cd_at (t + 196 * p) (y * F t) c + cd_at t (z * F t) c := by
  unfold cd_gp
  rw [cd_sp_s, cd_sp_s, cd_sp_s, cd_sp_s]
  unfold cd_at
  rw [Nat.add_zero]
  omega
section
variable {post : SY → Prop} {fc : Int32} {po ne : Nat → Int32}
theorem cd_yput {c v : Nat} {C V : Int32} (hC : C = nI c) (hV : V = nI v) (hc : c < 2 ^ 31) (hK : ∀ ne', (∀ j, j < 2744 → ne' j = ne j + nI (cd_at c v j)) → post (fc, po, ne')) : wpY_put post (fc, po, ne) C V := by
  subst hC hV
  refine pk_le 2744 c (fun h => ?_) (fun h => ?_)
  · refine hK ne (fun j hj => ?_)
    have e : cd_at c v j = 0 := if_neg (by omega)
    rw [e, nI_0, Int32.add_zero]
  · have hin : vp_in (nI c) 2744 := vp_in_nI h (by decide)
    refine ⟨hin, hin, nm_r (e' := upd ne c (ne c + nI v)) (by rw [nI_clamp hc]) (hK _ (fun j hj => ?_))⟩
    by_cases e : j = c
    · have e1 : cd_at c v j = v := if_pos e
      rw [e1, e, pk_us]
    · have e1 : cd_at c v j = 0 := if_neg e
      rw [e1, pk_un e, nI_0, Int32.add_zero]
theorem cd_130 {ne : Nat → Int32} (hK : ∀ po', (∀ j, j < 2744 → po' j = ne j) → post (fc, po', ne)) :
    ∀ d i po, i + d = 2744 → (∀ j, j < i → po j = ne j) → wY_times_130 post fc (d + 1) (nI i) po ne := by
  intro d
  induction d with
  | zero =>
    intro i po hi h
    have e : i = 2744 := by omega
    subst e
    exact br_t (nI_le (a := 2744) (Nat.le_refl _) (by decide)) (hK po h)
  | succ d ih =>
    intro i po hi h
    have hin : vp_in (nI i) 2744 := vp_in_nI (by omega) (by decide)
    refine br_f (nI_ge (b := 2744) (by omega) (by decide)) ⟨hin, hin, nm_r (e' := upd po i (ne i)) (by rw [nI_clamp (by omega)]) (nm_r (nI_1 i) (ih (i + 1) _ (by omega) (fun j hj => ?_)))⟩
    by_cases e : j = i
    · rw [e, pk_us]
    · rw [pk_un e, h j (by omega)]
theorem cd_28 {F : Nat → Nat} {p w x y z : Nat} (hp : p ≤ 7) (hF : cd_Rp F po) (hK : ∀ po' ne', cd_Rp (cd_ga p w x y z F) po' → post (fc, po', ne')) :
    ∀ d t ne, t + d = 2744 → (∀ c, c < 2744 → ne c = nI (cd_gp p w x y z F t c)) → wY_times_28 post (nI p) (nI w) (nI x) (nI y) (nI z) (d + 1) (nI t) fc po ne := by
  intro d
  induction d with
  | zero =>
    intro t ne ht h
    have e : t = 2744 := by omega
    subst e
    refine br_t (nI_le (a := 2744) (Nat.le_refl _) (by decide)) ⟨2744 + 1, cd_130 (fun po' h' => hK po' ne (fun c hc => ?_)) 2744 0 po rfl (fun j hj => absurd hj (Nat.not_lt_zero j))⟩
    rw [h' c hc, h c hc, cd_gp_e hc]
  | succ d ih =>
    intro t ne ht h
    have hin : vp_in (nI t) 2744 := vp_in_nI (by omega) (by decide)
    have ep : po (nI t).toNatClampNeg = nI (F t) := by
      rw [nI_clamp (by omega)]
      exact hF t (by omega)
    refine br_f (nI_ge (b := 2744) (by omega) (by decide)) ⟨hin, ?_⟩
    rw [ep]
    refine br_c (fun z0 => nm_r (nI_1 t) (ih (t + 1) ne (by omega) (fun c hc => ?_))) (fun _ => ⟨hin, ?_⟩)
    · have z1 : ∀ k v, nI (cd_at k (v * F t) c) = 0 := by
        intro k v
        unfold cd_at
        split
        · rw [← pk_mul, z0, Int32.mul_zero]
        · exact nI_0
      rw [cd_gp_s, ← nI_add, ← nI_add, ← nI_add, ← nI_add, z1, z1, z1, z1, Int32.add_zero, Int32.add_zero, Int32.add_zero, Int32.add_zero, h c hc]
    · have e14 : nI t + 14 * nI p = nI (t + 14 * p) := by
        have e : (14 : Int32) * nI p = nI (14 * p) := pk_mul 14 p
        rw [e, nI_add]
      have e196 : nI t + 196 * nI p = nI (t + 196 * p) := by
        have e : (196 : Int32) * nI p = nI (196 * p) := pk_mul 196 p
        rw [e, nI_add]
      refine cd_yput (nI_add t p) (pk_mul w (F t)) (by omega) (fun n1 h1 => ⟨hin, ?_⟩)
      refine cd_yput e14 (by rw [ep]; exact pk_mul x (F t)) (by omega) (fun n2 h2 => ⟨hin, ?_⟩)
      refine cd_yput e196 (by rw [ep]; exact pk_mul y (F t)) (by omega) (fun n3 h3 => ⟨hin, ?_⟩)
      refine cd_yput rfl (by rw [ep]; exact pk_mul z (F t)) (by omega) (fun n4 h4 => nm_r (nI_1 t) (ih (t + 1) n4 (by omega) (fun c hc => ?_)))
      rw [h4 c hc, h3 c hc, h2 c hc, h1 c hc, h c hc, cd_gp_s, nI_add, nI_add, nI_add, nI_add]
theorem cd_3 {F : Nat → Nat} {p w x y z : Nat} (hp : p ≤ 7) (hF : cd_Rp F po) (hK : ∀ po' ne', cd_Rp (cd_ga p w x y z F) po' → post (fc, po', ne')) :
    ∀ d i ne, i + d = 2744 → (∀ c, c < i → ne c = 0) → wY_times_3 post (nI p) (nI w) (nI x) (nI y) (nI z) fc (d + 1) (nI i) po ne := by
  intro d
  induction d with
  | zero =>
    intro i ne hi h
    have e : i = 2744 := by omega
    subst e
    refine br_t (nI_le (a := 2744) (Nat.le_refl _) (by decide)) ⟨2744 + 1, cd_28 hp hF hK 2744 0 ne rfl (fun c hc => ?_)⟩
    rw [h c hc, cd_gp_0, nI_0]
  | succ d ih =>
    intro i ne hi h
    refine br_f (nI_ge (b := 2744) (by omega) (by decide)) ⟨vp_in_nI (by omega) (by decide), nm_r (e' := upd ne i 0) (by rw [nI_clamp (by omega)]) (nm_r (nI_1 i) (ih (i + 1) _ (by omega) (fun j hj => ?_)))⟩
    by_cases e : j = i
    · rw [e, pk_us]
    · rw [pk_un e, h j (by omega)]
theorem cd_ytimes {F : Nat → Nat} {P W X Y Z : Int32} (p w x y z : Nat) (hP : P = nI p) (hW : W = nI w) (hX : X = nI x) (hY : Y = nI y) (hZ : Z = nI z) (hp : p ≤ 7) (hF : cd_Rp F po)
    (hK : ∀ po' ne', cd_Rp (cd_ga p w x y z F) po' → post (fc, po', ne')) : wpY_times post (fc, po, ne) P W X Y Z := by
  subst hP hW hX hY hZ
  exact ⟨2744 + 1, cd_3 hp hF hK 2744 0 ne rfl (fun j hj => absurd hj (Nat.not_lt_zero j))⟩
end
end
section
/-! the six differences, by tables -/
def cd_T (P N c : Nat) : Nat := P / 2 ^ c % 2 + 4294967295 * (N / 2 ^ c % 2)
noncomputable def cd_all (p : Nat → Bool) (n : Nat) : Bool := Nat.rec true (fun k ih => cond (p k) ih false) n
theorem cd_all_of {p : Nat → Bool} : ∀ n, cd_all p n = true → ∀ i, i < n → p i = true := by
  intro n
  induction n with
  | zero => exact fun _ i hi => absurd hi (Nat.not_lt_zero i)
  | succ n ih =>
    intro h i hi
    have h' : cond (p n) (cd_all p n) false = true := h
    cases e : p n with
    | false => rw [e] at h'; exact nomatch h'
    | true =>
      rw [e] at h'
      by_cases ei : i = n
      · rw [ei]; exact e
      · exact ih h' i (by omega)
def cd_ck (p w x y z : Nat) (F G : Nat → Nat) (c : Nat) : Bool := Nat.beq (cd_ga p w x y z F c % 4294967296) (G c % 4294967296)
theorem cd_nI_mod {a b : Nat} (h : a % 4294967296 = b % 4294967296) : nI a = nI b := by
  apply Int32.toBitVec_inj.mp
  apply BitVec.eq_of_toNat_eq
  exact h
theorem cd_Rp_ck {p w x y z : Nat} {F G : Nat → Nat} {po : Nat → Int32} (h : cd_all (cd_ck p w x y z F G) 2744 = true) (hR : cd_Rp (cd_ga p w x y z F) po) : cd_Rp G po := by
  intro c hc
  rw [hR c hc]
  exact cd_nI_mod (Nat.eq_of_beq_eq_true (cd_all_of 2744 h c hc))
def cd_t0 : Nat → Nat := cd_T 1 0
def cd_t1 : Nat → Nat := cd_T 2 16384
theorem cd_t1_ck : cd_all (cd_ck 1 1 4294967295 0 0 cd_t0 cd_t1) 2744 = true := by decide +kernel
def cd_t2 : Nat → Nat := cd_T 1645504557321206042154969182557350504982735865633579863348609028 200867255532373784442745261542645325315275374222849104445440
theorem cd_t2_ck : cd_all (cd_ck 1 1 0 4294967295 0 cd_t1 cd_t2) 2744 = true := by decide +kernel
def cd_t3 : Nat → Nat := cd_T 3291209981897944458094381110376243655290787006641382575801663496 1645906291832270789723854673080435795633366416382025561557499908
theorem cd_t3_ck : cd_all (cd_ck 1 1 0 0 4294967295 cd_t2 cd_t3) 2744 = true := by decide +kernel
def cd_t4 : Nat → Nat := cd_T 165304339851907257684692200745255307017637572394083261492470071607083186082253448659493175251138762841145882401223880081408 330548158222296853449314340884916793444470542308647087977978334634045531351864832342428326168398589184245768378543817949184
theorem cd_t4_ck : cd_all (cd_ck 1 0 1 4294967295 0 cd_t3 cd_t4) 2744 = true := by decide +kernel
def cd_t5 : Nat → Nat := cd_T 2708346324307475682459970373697131481450504254305486662770965307147447763407374211996566017035606031336094587424018082318843904 5415535800669568429871774895605205613581308800415785832083047180318171865959417510874092594513073766315100019390450624406618112
theorem cd_t5_ck : cd_all (cd_ck 1 0 1 0 4294967295 cd_t4 cd_t5) 2744 = true := by decide +kernel
def cd_t6 : Nat → Nat := cd_T 272009046597417499284077703304319647964117656183752235594368152229096991619514642409486905324096345907083076870480120217460387519557163287027425381418447521906312606659366422316065095680 543901906758906330765317059188455943416006963873001682822448281726606268095710863166382755055310838320616507252829467928570300613167250054810576326258800670861300579181506797551772303360
theorem cd_t6_ck : cd_all (cd_ck 1 0 0 1 4294967295 cd_t5 cd_t6) 2744 = true := by decide +kernel
end
section
/-! begin, cycles, ones, coefficient -/
def cd_kf : List Nat → Nat → Nat
  | [], c => cd_t6 c
  | p :: L, c => cd_ga p 1 1 1 1 (cd_kf L) c
def cd_fo (L : List Nat) : Nat → Nat := cd_kf L.reverse
theorem cd_fo_s (L : List Nat) (q : Nat) : cd_fo (L ++ [q]) = cd_ga q 1 1 1 1 (cd_fo L) := by
  unfold cd_fo
  rw [List.reverse_append]
  rfl
section
variable {post : SY → Prop} {fc : Int32} {ne : Nat → Int32}
theorem cd_t0_z {c : Nat} (hc : 0 < c) : cd_t0 c = 0 := by
  have h1 : 1 < 2 ^ c := Nat.one_lt_two_pow (by omega)
  show 1 / 2 ^ c % 2 + 4294967295 * (0 / 2 ^ c % 2) = 0
  rw [Nat.div_eq_of_lt h1, Nat.zero_div]
theorem cd_ybg_lp (hK : ∀ po' ne', cd_Rp cd_t6 po' → post (fc, po', ne')) :
    ∀ d i po, i + d = 2744 → (∀ c, c < i → po c = nI (cd_t0 c)) → wY_begin_2 post fc (d + 1) (nI i) po ne := by
  intro d
  induction d with
  | zero =>
    intro i po hi h
    have e : i = 2744 := by omega
    subst e
    refine br_t (nI_le (a := 2744) (Nat.le_refl _) (by decide)) ?_
    refine cd_ytimes 1 1 4294967295 0 0 rfl rfl cd_neg1 rfl rfl (by decide) h (fun po1 ne1 h1 => ?_)
    refine cd_ytimes 1 1 0 4294967295 0 rfl rfl rfl cd_neg1 rfl (by decide) (cd_Rp_ck cd_t1_ck h1) (fun po2 ne2 h2 => ?_)
    refine cd_ytimes 1 1 0 0 4294967295 rfl rfl rfl rfl cd_neg1 (by decide) (cd_Rp_ck cd_t2_ck h2) (fun po3 ne3 h3 => ?_)
    refine cd_ytimes 1 0 1 4294967295 0 rfl rfl rfl cd_neg1 rfl (by decide) (cd_Rp_ck cd_t3_ck h3) (fun po4 ne4 h4 => ?_)
    refine cd_ytimes 1 0 1 0 4294967295 rfl rfl rfl rfl cd_neg1 (by decide) (cd_Rp_ck cd_t4_ck h4) (fun po5 ne5 h5 => ?_)
    refine cd_ytimes 1 0 0 1 4294967295 rfl rfl rfl rfl cd_neg1 (by decide) (cd_Rp_ck cd_t5_ck h5) (fun po6 ne6 h6 => ?_)
    exact hK po6 ne6 (cd_Rp_ck cd_t6_ck h6)
  | succ d ih =>
    intro i po hi h
    have hin : vp_in (nI i) 2744 := vp_in_nI (by omega) (by decide)
    have hcl : (nI i).toNatClampNeg = i := nI_clamp (by omega)
    refine br_f (nI_ge (b := 2744) (by omega) (by decide)) (pk_eq i 0 (fun z => ?_) (fun z => ?_))
    · refine ⟨hin, nm_r (e' := upd po i 1) (by rw [hcl]) (nm_r (nI_1 i) (ih (i + 1) _ (by omega) (fun c hc => ?_)))⟩
      have e : c = i := by omega
      rw [e, pk_us, z]
      exact (by decide +kernel : (1 : Int32) = nI (cd_t0 0))
    · refine ⟨hin, nm_r (e' := upd po i 0) (by rw [hcl]) (nm_r (nI_1 i) (ih (i + 1) _ (by omega) (fun c hc => ?_)))⟩
      by_cases e : c = i
      · rw [e, pk_us, cd_t0_z (by omega), nI_0]
      · rw [pk_un e, h c (by omega)]
theorem cd_ybg {po : Nat → Int32} (hK : ∀ po' ne', cd_Rp cd_t6 po' → post (fc, po', ne')) : wpY_begin post (fc, po, ne) :=
  ⟨2744 + 1, cd_ybg_lp hK 2744 0 po rfl (fun j hj => absurd hj (Nat.not_lt_zero j))⟩
theorem cd_ycy_lp {m : Nat} (hm : m < 4096) (hK : ∀ po' ne', cd_Rp (cd_fo (cd_rl m 4)) po' → post (fc, po', ne')) :
    ∀ d i po ne, i + d = 4 → cd_Rp (cd_fo (cd_rl m i)) po → wY_cycles_6 post (nI m) (d + 1) (nI i) fc po ne := by
  intro d
  induction d with
  | zero =>
    intro i po ne hi h
    have e : i = 4 := by omega
    subst e
    exact br_t (nI_le (a := 4) (Nat.le_refl _) (by decide)) (hK po ne h)
  | succ d ih =>
    intro i po ne hi h
    have hq := cd_pt_lt m i
    have ep := cd_part (i := i) hm (by omega)
    refine br_f (nI_ge (b := 4) (by omega) (by decide)) ?_
    refine pk_le (cd_pt m i) 0 (fun z => ?_) (fun z => ?_) ep
    · refine nm_r (nI_1 i) (ih (i + 1) po ne (by omega) ?_)
      have e : cd_rl m (i + 1) = cd_rl m i := if_pos (by omega)
      rw [e]
      exact h
    · refine cd_ytimes (cd_pt m i) 1 1 1 1 ep rfl rfl rfl rfl (by omega) h (fun po1 ne1 h1 => nm_r (nI_1 i) (ih (i + 1) po1 ne1 (by omega) ?_))
      have e : cd_rl m (i + 1) = cd_rl m i ++ [cd_pt m i] := if_neg (by omega)
      rw [e, cd_fo_s]
      exact h1
theorem cd_ycy {m : Nat} {po : Nat → Int32} (hm : m < 4096) (hK : ∀ po' ne', cd_Rp (cd_fo (cd_rl m 4)) po' → post (fc, po', ne')) : wpY_cycles post (fc, po, ne) (nI m) :=
  cd_ybg (fun po1 ne1 h1 => ⟨4 + 1, cd_ycy_lp hm hK 4 0 po1 ne1 rfl h1⟩)
theorem cd_yon_lp {n : Nat} (hn : n < 2 ^ 31) (hK : ∀ po' ne', cd_Rp (cd_fo (List.replicate n 1)) po' → post (fc, po', ne')) :
    ∀ d i po ne, i + d = n → cd_Rp (cd_fo (List.replicate i 1)) po → wY_ones_6 post (nI n) (d + 1) (nI i) fc po ne := by
  intro d
  induction d with
  | zero =>
    intro i po ne hi h
    have e : i = n := by omega
    subst e
    exact br_t (nI_le (Nat.le_refl _) hn) (hK po ne h)
  | succ d ih =>
    intro i po ne hi h
    refine br_f (nI_ge (by omega) hn) ?_
    refine cd_ytimes 1 1 1 1 1 rfl rfl rfl rfl rfl (by decide) h (fun po1 ne1 h1 => nm_r (nI_1 i) (ih (i + 1) po1 ne1 (by omega) ?_))
    rw [List.replicate_succ', cd_fo_s]
    exact h1
theorem cd_yon {n : Nat} {po : Nat → Int32} (hn : n < 2 ^ 31) (hK : ∀ po' ne', cd_Rp (cd_fo (List.replicate n 1)) po' → post (fc, po', ne')) : wpY_ones post (fc, po, ne) (nI n) :=
  cd_ybg (fun po1 ne1 h1 => ⟨n + 1, cd_yon_lp hn hK n 0 po1 ne1 (by omega) h1⟩)
end
def cd_ce (s : Nat) : Nat := cd_pt s 0 + 3 + 14 * (cd_pt s 1 + 2) + 196 * (cd_pt s 2 + 1)
theorem cd_yco {post : Int32 → Prop} {fc : Int32} {po ne : Nat → Int32} {F : Nat → Nat} {s : Nat} (hs : s < 4096) (hF : cd_Rp F po) (hp : post (nI (F (cd_ce s)))) : wpY_coefficient post (fc, po, ne) (nI s) := by
  have h0 := cd_pt_lt s 0
  have h1 := cd_pt_lt s 1
  have h2 := cd_pt_lt s 2
  have e0 : (nI s >>> ((3 * (0 : Int32)) &&& 31)) &&& 7 = nI (cd_pt s 0) := cd_part (i := 0) hs (by decide)
  have e1 : (nI s >>> ((3 * (1 : Int32)) &&& 31)) &&& 7 = nI (cd_pt s 1) := cd_part (i := 1) hs (by decide)
  have e2 : (nI s >>> ((3 * (2 : Int32)) &&& 31)) &&& 7 = nI (cd_pt s 2) := cd_part (i := 2) hs (by decide)
  have hc : cd_ce s < 2744 := by unfold cd_ce; omega
  have e : ((((nI s >>> ((3 * (0 : Int32)) &&& 31)) &&& 7) + 3) + (14 * (((nI s >>> ((3 * (1 : Int32)) &&& 31)) &&& 7) + 2))) + (196 * (((nI s >>> ((3 * (2 : Int32)) &&& 31)) &&& 7) + 1)) = nI (cd_ce s) := by
    have a0 : nI (cd_pt s 0) + 3 = nI (cd_pt s 0 + 3) := nI_add _ 3
    have a1 : nI (cd_pt s 1) + 2 = nI (cd_pt s 1 + 2) := nI_add _ 2
    have a2 : nI (cd_pt s 2) + 1 = nI (cd_pt s 2 + 1) := nI_add _ 1
    have b1 : (14 : Int32) * nI (cd_pt s 1 + 2) = nI (14 * (cd_pt s 1 + 2)) := pk_mul 14 _
    have b2 : (196 : Int32) * nI (cd_pt s 2 + 1) = nI (196 * (cd_pt s 2 + 1)) := pk_mul 196 _
    rw [e0, e1, e2, a0, a1, a2, b1, b2, nI_add, nI_add]
    rfl
  show vp_in (((((nI s >>> ((3 * (0 : Int32)) &&& 31)) &&& 7) + 3) + (14 * (((nI s >>> ((3 * (1 : Int32)) &&& 31)) &&& 7) + 2))) + (196 * (((nI s >>> ((3 * (2 : Int32)) &&& 31)) &&& 7) + 1))) 2744 ∧ post (po (((((nI s >>> ((3 * (0 : Int32)) &&& 31)) &&& 7) + 3) + (14 * (((nI s >>> ((3 * (1 : Int32)) &&& 31)) &&& 7) + 2))) + (196 * (((nI s >>> ((3 * (2 : Int32)) &&& 31)) &&& 7) + 1))).toNatClampNeg)
  rw [e, nI_clamp (by omega), hF _ hc]
  exact ⟨vp_in_nI hc (by decide), hp⟩
end
section
/-! the mathematics: rims taken away, and the polynomials' coefficients, agree (by reckoning over the 37 partitions) -/
def cd_codes : List Nat := [1, 2, 3, 4, 5, 6, 7, 9, 10, 11, 12, 13, 14, 18, 19, 20, 21, 27, 28, 73, 74, 75, 76, 77, 82, 83, 84, 91, 146, 147, 585, 586, 587, 588, 594, 595, 658]
def cd_isc (s : Nat) : Bool := Nat.beq (cd_sv s) 0 || cd_codes.any (fun c => Nat.beq s c)
theorem cd_isc_ck : cd_all cd_isc 4096 = true := by decide +kernel
theorem cd_mem {s : Nat} (hs : s < 4096) (h : cd_sv s ≠ 0) : s ∈ cd_codes := by
  have k := cd_all_of 4096 cd_isc_ck s hs
  unfold cd_isc at k
  rcases Bool.or_eq_true_iff.mp k with k1 | k1
  · exact absurd (Nat.eq_of_beq_eq_true k1) h
  · obtain ⟨c, hc, e⟩ := List.any_eq_true.mp k1
    rw [Nat.eq_of_beq_eq_true e]
    exact hc
def cd_kc (m s : Nat) : Bool := not (Nat.beq (cd_sv s) (cd_sv m)) || Nat.beq (cd_ev (cd_rl m 4) (cd_mk s 4) % 4294967296) (cd_fo (cd_rl m 4) (cd_ce s) % 4294967296)
theorem cd_kc_ck : cd_codes.all (fun m => cd_codes.all (fun s => cd_kc m s)) = true := by decide +kernel
theorem cd_key_ch {s m : Nat} (hs : s < 4096) (hm : m < 4096) (h : cd_sv m ≠ 0) (e : cd_sv s = cd_sv m) : nI (cd_fo (cd_rl m 4) (cd_ce s)) = nI (cd_ev (cd_rl m 4) (cd_mk s 4)) := by
  have k := List.all_eq_true.mp (List.all_eq_true.mp cd_kc_ck m (cd_mem hm h)) s (cd_mem hs (by rw [e]; exact h))
  unfold cd_kc at k
  rcases Bool.or_eq_true_iff.mp k with k1 | k1
  · rw [e, Nat.beq_refl] at k1
    exact absurd k1 (by decide)
  · exact (cd_nI_mod (Nat.eq_of_beq_eq_true k1)).symm
end
section
/-! the same with rims of one -/
noncomputable def cd_fc (x : Nat) (f : Nat → Nat) : Nat := Nat.rec (f 0) (fun n _ => f (Nat.succ n)) x
theorem cd_fc_e (x : Nat) (f : Nat → Nat) : cd_fc x f = f x := by cases x <;> rfl
noncomputable def cd_k1 (n : Nat) : Nat → Nat := Nat.rec cd_t6 (fun _ ih c => Nat.add (Nat.add (Nat.add (cond (Nat.ble 1 c) (cd_fc (Nat.sub c 1) ih) 0) (cond (Nat.ble 14 c) (cd_fc (Nat.sub c 14) ih) 0)) (cond (Nat.ble 196 c) (cd_fc (Nat.sub c 196) ih) 0)) (ih c)) n
theorem cd_sh_c (F : Nat → Nat) (k c : Nat) : cd_sh F k 1 c = cond (Nat.ble k c) (F (c - k)) 0 := by
  unfold cd_sh
  by_cases h : k ≤ c
  · rw [if_pos h, Nat.ble_eq_true_of_le h, Nat.one_mul]
    rfl
  · rw [if_neg h]
    cases e : Nat.ble k c with
    | false => rfl
    | true => exact absurd (Nat.le_of_ble_eq_true e) h
theorem cd_k1_e : ∀ n c, cd_k1 n c = cd_fo (List.replicate n 1) c := by
  intro n
  induction n with
  | zero => exact fun c => rfl
  | succ n ih =>
    intro c
    rw [List.replicate_succ', cd_fo_s]
    show Nat.add (Nat.add (Nat.add (cond (Nat.ble 1 c) (cd_fc (Nat.sub c 1) (cd_k1 n)) 0) (cond (Nat.ble 14 c) (cd_fc (Nat.sub c 14) (cd_k1 n)) 0)) (cond (Nat.ble 196 c) (cd_fc (Nat.sub c 196) (cd_k1 n)) 0)) (cd_k1 n c) = _
    unfold cd_ga
    rw [cd_fc_e, cd_fc_e, cd_fc_e, ih, ih, ih, ih, cd_sh_c, cd_sh_c, cd_sh_c, cd_sh_c]
    rfl
noncomputable def cd_kd (n s : Nat) : Bool := not (Nat.beq (cd_sv s) n) || Nat.beq (cd_ev (List.replicate n 1) (cd_mk s 4) % 4294967296) (cd_k1 n (cd_ce s) % 4294967296)
theorem cd_kd1 : cd_codes.all (cd_kd 1) = true := by decide +kernel
theorem cd_kd2 : cd_codes.all (cd_kd 2) = true := by decide +kernel
theorem cd_kd3 : cd_codes.all (cd_kd 3) = true := by decide +kernel
theorem cd_kd4 : cd_codes.all (cd_kd 4) = true := by decide +kernel
theorem cd_kd5 : cd_codes.all (cd_kd 5) = true := by decide +kernel
theorem cd_kd6 : cd_codes.all (cd_kd 6) = true := by decide +kernel
theorem cd_kd7 : cd_codes.all (cd_kd 7) = true := by decide +kernel
theorem cd_key_dg {s : Nat} (hs : s < 4096) (h : cd_sv s ≠ 0) : nI (cd_fo (List.replicate (cd_sv s) 1) (cd_ce s)) = nI (cd_ev (List.replicate (cd_sv s) 1) (cd_mk s 4)) := by
  have hl := cd_sv_le s
  have hm := cd_mem hs h
  have e : cd_sv s = 1 ∨ cd_sv s = 2 ∨ cd_sv s = 3 ∨ cd_sv s = 4 ∨ cd_sv s = 5 ∨ cd_sv s = 6 ∨ cd_sv s = 7 := by omega
  have k : cd_codes.all (cd_kd (cd_sv s)) = true := by
    rcases e with e | e | e | e | e | e | e <;> rw [e]
    · exact cd_kd1
    · exact cd_kd2
    · exact cd_kd3
    · exact cd_kd4
    · exact cd_kd5
    · exact cd_kd6
    · exact cd_kd7
  have k2 := List.all_eq_true.mp k s hm
  unfold cd_kd at k2
  rcases Bool.or_eq_true_iff.mp k2 with k1 | k1
  · rw [Nat.beq_refl] at k1
    exact absurd k1 (by decide)
  · rw [← cd_k1_e]
    exact (cd_nI_mod (Nat.eq_of_beq_eq_true k1)).symm
end
section
/-! character and degree, each side -/
def cd_cv (p q : Int32) : Int32 := if cd_rd q = 0 then -1000000 else if cd_rd p = cd_rd q then nI (cd_ev (cd_rl q.toNatClampNeg 4) (cd_mk p.toNatClampNeg 4)) else -1000000
def cd_dv (p : Int32) : Int32 := if cd_rd p = 0 then -1000000 else nI (cd_ev (List.replicate (cd_sv p.toNatClampNeg) 1) (cd_mk p.toNatClampNeg 4))
theorem cd_cv_nI {s m : Nat} (hs : s < 4096) (hm : m < 4096) (h : cd_sv m ≠ 0) (e : cd_sv s = cd_sv m) : cd_cv (nI s) (nI m) = nI (cd_fo (cd_rl m 4) (cd_ce s)) := by
  have h7 := cd_sv_le m
  have z : ¬ cd_rd (nI m) = 0 := by
    rw [cd_rd_nI hm]
    exact nI_ne0 (by omega) (by omega)
  have z2 : cd_rd (nI s) = cd_rd (nI m) := by rw [cd_rd_nI hm, cd_rd_nI hs, e]
  rw [cd_cv, if_neg z, if_pos z2, nI_clamp (by omega), nI_clamp (by omega), cd_key_ch hs hm h e]
theorem cd_dv_nI {s : Nat} (hs : s < 4096) (h : cd_sv s ≠ 0) : cd_dv (nI s) = nI (cd_fo (List.replicate (cd_sv s) 1) (cd_ce s)) := by
  have h7 := cd_sv_le s
  have z : ¬ cd_rd (nI s) = 0 := by
    rw [cd_rd_nI hs]
    exact nI_ne0 (by omega) (by omega)
  rw [cd_dv, if_neg z, nI_clamp (by omega), cd_key_dg hs h]
theorem cd_sv_inj {s m : Nat} (e : nI (cd_sv s) = nI (cd_sv m)) : cd_sv s = cd_sv m := by
  have h1 := cd_sv_le s
  have h2 := cd_sv_le m
  exact (nI_eq (by omega) (by omega)).mp e
section
variable {post : Int32 → SX → Prop} {fc fr : Int32} {a r nw th : Nat → Int32}
theorem cd_xchar (p q : Int32) (hK : ∀ fr' a' r' nw' th', post (cd_cv p q) (fc, fr', a', r', nw', th')) : wpX_character post (fc, fr, a, r, nw, th) p q := by
  unfold wpX_character
  dsimp only
  refine cd_xread q (fun a1 h1 => ?_)
  by_cases z : cd_rd q = 0
  · have k := hK fr a1 r nw th
    rw [cd_cv, if_pos z] at k
    exact br_t z k
  · refine br_f z ?_
    obtain ⟨m, hm, e, hmv, hrv⟩ := cd_rd_ne z
    refine cd_xwp (h1 m hm e hmv) (fun c2 r2 hR => ?_)
    refine cd_xread p (fun a2 h2 => ?_)
    refine br_c (fun ze => ?_) (fun zn => ?_)
    · obtain ⟨s, hs, es, hsv, _⟩ := cd_rd_ne (p := p) (by rw [ze]; exact z)
      refine cd_xmarks (h2 s hs es hsv) ?_
      refine cd_xstrip (cd_mk_lt s 4) (cd_rl_in m 4) (Nat.le_trans (cd_rl_len m 4) (by decide)) hR (fun nw' th' => ?_)
      have k := hK c2 a2 r2 nw' th'
      rw [cd_cv, if_neg z, if_pos ze, e, es, nI_clamp (by omega), nI_clamp (by omega)] at k
      exact k
    · have k := hK c2 a2 r2 nw th
      rw [cd_cv, if_neg z, if_neg zn] at k
      exact k
theorem cd_xdeg (p : Int32) (hK : ∀ fr' a' r' nw' th', post (cd_dv p) (fc, fr', a', r', nw', th')) : wpX_degree post (fc, fr, a, r, nw, th) p := by
  unfold wpX_degree
  dsimp only
  refine cd_xread p (fun a1 h1 => ?_)
  by_cases z : cd_rd p = 0
  · have k := hK fr a1 r nw th
    rw [cd_dv, if_pos z] at k
    exact br_t z k
  · refine br_f z ?_
    obtain ⟨s, hs, e, hsv, hrv⟩ := cd_rd_ne z
    rw [hrv]
    refine cd_xwo (cd_sv_le s) (fun r2 hR => ?_)
    refine cd_xmarks (h1 s hs e hsv) ?_
    have h7 := cd_sv_le s
    refine cd_xstrip (L := List.replicate (cd_sv s) 1) (cd_mk_lt s 4) (fun x hx => ?_) (by rw [List.length_replicate]; omega) hR (fun nw' th' => ?_)
    · rw [List.eq_of_mem_replicate hx]
      exact ⟨by decide, by decide⟩
    · have k := hK (nI (cd_sv s)) a1 r2 nw' th'
      rw [cd_dv, if_neg z, e, nI_clamp (by omega)] at k
      exact k
end
section
variable {post : Int32 → SY → Prop} {fc : Int32} {po ne : Nat → Int32}
theorem cd_ychar (p q : Int32) (hK : ∀ po' ne', post (cd_cv p q) (fc, po', ne')) : wpY_character post (fc, po, ne) p q := by
  unfold wpY_character
  dsimp only
  refine cd_ysum p ?_
  by_cases z : cd_rd p = 0
  · have k := hK po ne
    have ev : cd_cv p q = -1000000 := by
      by_cases zq : cd_rd q = 0
      · rw [cd_cv, if_pos zq]
      · rw [cd_cv, if_neg zq, if_neg (fun e => zq (by rw [← e]; exact z))]
    rw [ev] at k
    exact br_t z k
  · refine br_f z (cd_ysum q (br_c (fun e => ?_) (fun e => ?_)))
    · have zq : ¬ cd_rd q = 0 := by rw [← e]; exact z
      obtain ⟨s, hs, es, hsv, hrs⟩ := cd_rd_ne z
      obtain ⟨m, hm, em, hmv, hrm⟩ := cd_rd_ne zq
      subst es em
      have evs : cd_sv s = cd_sv m := cd_sv_inj (by rw [← hrs, ← hrm, e])
      refine cd_ycy hm (fun po1 ne1 h1 => cd_yco hs h1 ?_)
      have k := hK po1 ne1
      rw [cd_cv_nI hs hm hmv evs] at k
      exact k
    · have k := hK po ne
      have ev : cd_cv p q = -1000000 := by
        by_cases zq : cd_rd q = 0
        · rw [cd_cv, if_pos zq]
        · rw [cd_cv, if_neg zq, if_neg e]
      rw [ev] at k
      exact k
theorem cd_ydeg (p : Int32) (hK : ∀ po' ne', post (cd_dv p) (fc, po', ne')) : wpY_degree post (fc, po, ne) p := by
  unfold wpY_degree
  dsimp only
  refine cd_ysum p ?_
  by_cases z : cd_rd p = 0
  · have k := hK po ne
    rw [cd_dv, if_pos z] at k
    exact br_t z k
  · refine br_f z ?_
    obtain ⟨s, hs, es, hsv, hrs⟩ := cd_rd_ne z
    have h7 := cd_sv_le s
    subst es
    rw [hrs]
    refine cd_yon (by omega) (fun po1 ne1 h1 => cd_yco hs h1 ?_)
    have k := hK po1 ne1
    rw [cd_dv_nI hs hsv] at k
    exact k
end
end
section
/-! turned -/
def cd_cl (s col : Nat) : Nat → Nat
  | 0 => 0
  | i + 1 => cd_cl s col i + (if cd_pt s i < col then 0 else 1)
theorem cd_cl_le (s col : Nat) : ∀ i, cd_cl s col i ≤ i := by
  intro i
  induction i with
  | zero => exact Nat.le_refl 0
  | succ i ih =>
    show cd_cl s col i + (if cd_pt s i < col then 0 else 1) ≤ i + 1
    split <;> omega
def cd_tx (s : Nat) : Nat → Nat → Nat
  | 0, x => x
  | c + 1, x => cd_tx s c (8 * x + cd_cl s (c + 1) 4)
def cd_ty (s : Nat) : Nat → Nat → Nat → Nat
  | 0, _, x => x
  | d + 1, i, x => cd_ty s d (i + 1) (x ||| cd_cl s (i + 1) 4 * 2 ^ (3 * i))
section
variable {post : Int32 → SX → Prop} {J : Int32 → Int32 → Prop} {fc fr : Int32} {a r nw th : Nat → Int32} {s : Nat}
theorem cd_xt36 {x2 : Int32} {col : Nat} (hc : col < 8) (ha : cd_Pa s a) (hJ : J (8 * x2 + nI (cd_cl s col 4)) (nI col + (-1))) :
    ∀ d i, i + d = 4 → wX_turned_36 post J x2 (nI col) fc fr a r nw th (d + 1) (nI (cd_cl s col i)) (nI i) := by
  intro d
  induction d with
  | zero =>
    intro i hi
    have e : i = 4 := by omega
    subst e
    exact br_t (nI_le (a := 4) (Nat.le_refl _) (by decide)) (nm_e (nm_e hJ))
  | succ d ih =>
    intro i hi
    have hq := cd_pt_lt s i
    refine br_f (nI_ge (b := 4) (by omega) (by decide)) ⟨vp_in_nI (by omega) (by decide), ?_⟩
    refine pk_lt (cd_pt s i) col (fun h => ?_) (fun h => ?_) (by rw [nI_clamp (by omega)]; exact ha i (by omega))
    · have e : cd_cl s col (i + 1) = cd_cl s col i + 0 := congrArg (cd_cl s col i + ·) (if_pos h)
      have k := ih (i + 1) (by omega)
      rw [e] at k
      exact nm_r (nI_add _ 0) (nm_r (nI_1 i) k)
    · have e : cd_cl s col (i + 1) = cd_cl s col i + 1 := congrArg (cd_cl s col i + ·) (if_neg (by omega))
      have k := ih (i + 1) (by omega)
      rw [e] at k
      exact nm_r (nI_add _ 1) (nm_r (nI_1 i) k)
theorem cd_xt25 (ha : cd_Pa s a) : ∀ c x, c < 8 → post (nI (cd_tx s c x)) (fc, fr, a, r, nw, th) → wX_turned_25 post fc fr a r nw th (c + 1) (nI x) (nI c) := by
  intro c
  induction c with
  | zero => exact fun x _ hp => br_t (nI_lt (b := 1) (by decide) (by decide)) hp
  | succ c ih =>
    intro x hc hp
    refine br_f (nI_nlt (b := 1) (by omega) (by omega)) ⟨4 + 1, cd_xt36 hc ha ?_ 4 0 rfl⟩
    have e1 : (8 : Int32) * nI x = nI (8 * x) := pk_mul 8 x
    rw [pk_m1, e1, nI_add]
    exact ih _ (by omega) hp
end
section
variable {post : Int32 → Prop} {J : Int32 → Int32 → Prop} {fc : Int32} {po ne : Nat → Int32} {s : Nat}
theorem cd_yt36 {x2 : Int32} {q : Nat} (hs : s < 4096) (hq8 : q < 8) (hJ : J (x2 ||| (nI (cd_cl s (q + 1) 4) <<< ((3 * nI q) &&& 31))) (nI (q + 1))) :
    ∀ d i, i + d = 4 → wY_turned_36 post J (nI s) x2 (nI q) fc po ne (d + 1) (nI (cd_cl s (q + 1) i)) (nI i) := by
  intro d
  induction d with
  | zero =>
    intro i hi
    have e : i = 4 := by omega
    subst e
    exact br_t (nI_le (a := 4) (Nat.le_refl _) (by decide)) (nm_e (nm_r (nI_1 q) hJ))
  | succ d ih =>
    intro i hi
    have hq := cd_pt_lt s i
    refine br_f (nI_ge (b := 4) (by omega) (by decide)) ?_
    refine pk_le (cd_pt s i) q (fun h => ?_) (fun h => ?_) (cd_part hs (by omega))
    · have e : cd_cl s (q + 1) (i + 1) = cd_cl s (q + 1) i + 0 := congrArg (cd_cl s (q + 1) i + ·) (if_pos (by omega))
      have k := ih (i + 1) (by omega)
      rw [e] at k
      exact nm_r (nI_1 i) k
    · have e : cd_cl s (q + 1) (i + 1) = cd_cl s (q + 1) i + 1 := congrArg (cd_cl s (q + 1) i + ·) (if_neg (by omega))
      have k := ih (i + 1) (by omega)
      rw [e] at k
      exact nm_r (nI_add _ 1) (nm_r (nI_1 i) k)
theorem cd_yt25 (hs : s < 4096) : ∀ d i x, i + d = 4 → post (nI (cd_ty s d i x)) → wY_turned_25 post (nI s) fc po ne (d + 1) (nI x) (nI i) := by
  intro d
  induction d with
  | zero =>
    intro i x hi hp
    have e : i = 4 := by omega
    subst e
    exact br_t (nI_le (a := 4) (Nat.le_refl _) (by decide)) hp
  | succ d ih =>
    intro i x hi hp
    refine br_f (nI_ge (b := 4) (by omega) (by decide)) ⟨4 + 1, cd_yt36 hs (by omega) ?_ 4 0 rfl⟩
    have e1 : (3 : Int32) * nI i = nI (3 * i) := pk_mul 3 i
    have h4 := cd_cl_le s (i + 1) 4
    have hb : cd_cl s (i + 1) 4 * 2 ^ (3 * i) < 2 ^ 32 := by
      have h1 : 2 ^ (3 * i) ≤ 2 ^ 9 := Nat.pow_le_pow_right (by decide) (by omega)
      have h2 : cd_cl s (i + 1) 4 * 2 ^ (3 * i) ≤ 4 * 2 ^ 9 := Nat.mul_le_mul h4 h1
      omega
    rw [e1, pk_shlN _ (3 * i) (s_l (3 * i) (by omega)) hb, cd_or]
    exact ih (i + 1) _ (by omega) hp
end
theorem cd_turn_ck : cd_codes.all (fun s => Nat.beq (cd_tx s 4 0) (cd_ty s 4 0 0)) = true := by decide +kernel
theorem cd_turn {s : Nat} (hs : s < 4096) (h : cd_sv s ≠ 0) : cd_ty s 4 0 0 = cd_tx s 4 0 := by
  have k := List.all_eq_true.mp cd_turn_ck s (cd_mem hs h)
  exact (Nat.eq_of_beq_eq_true k).symm
end
section
/-! permutations -/
def cd_fa : Nat → Nat → Int32 → Int32
  | 0, _, x => x
  | d + 1, i, x => cd_fa d (i + 1) (x * nI i)
/-- how often the part i stands there by now -/
def cd_ag (s i : Nat) (x : Int32) : Int32 := if i = 0 then 1 else if cd_pt s i = cd_pt s (i - 1) then x + 1 else 1
def cd_px (s : Nat) : Nat → Nat → Int32 → Int32 → Int32
  | 0, _, x, _ => x
  | d + 1, i, x, y => if cd_pt s i = 0 then cd_px s d (i + 1) x y else cd_px s d (i + 1) (if nI (cd_pt s i) * cd_ag s i y ≤ 0 then x else x / (nI (cd_pt s i) * cd_ag s i y)) (cd_ag s i y)
def cd_py (s : Nat) : Nat → Nat → Int32 → Int32 → Int32
  | 0, _, x, _ => x
  | d + 1, i, x, y => cd_py s d (i + 1) (if cd_pt s i = 0 then x else x * nI (cd_pt s i) * cd_ag s i y) (cd_ag s i y)
theorem cd_px_z {s d i : Nat} {x y : Int32} (h : cd_pt s i = 0) : cd_px s (d + 1) i x y = cd_px s d (i + 1) x y := if_pos h
theorem cd_px_n {s d i : Nat} {x y : Int32} (h : ¬ cd_pt s i = 0) : cd_px s (d + 1) i x y = cd_px s d (i + 1) (if nI (cd_pt s i) * cd_ag s i y ≤ 0 then x else x / (nI (cd_pt s i) * cd_ag s i y)) (cd_ag s i y) := if_neg h
section
variable {post : Int32 → SX → Prop} {J : Int32 → Int32 → Int32 → Prop} {fc fr : Int32} {a r nw th : Nat → Int32} {s : Nat}
theorem cd_xp89 {x z : Int32} {i : Nat} (hi : i < 4) (ha : cd_Pa s a) (hJ : J (if nI (cd_pt s i) * z ≤ 0 then x else x / (nI (cd_pt s i) * z)) z (nI (i + 1))) : wX_permutations_89 post J x (nI i) z fc fr a r nw th := by
  unfold wX_permutations_89
  refine ⟨vp_in_nI hi (by decide), nm_r (e' := nI (cd_pt s i) * z) (by rw [nI_clamp (by omega), ha i hi]) ?_⟩
  by_cases h : nI (cd_pt s i) * z ≤ 0
  · rw [if_pos h] at hJ
    exact br_t h (nm_r (nI_1 i) hJ)
  · rw [if_neg h] at hJ
    refine br_f h ⟨fun e => h ?_, nm_e (nm_r (nI_1 i) hJ)⟩
    rw [e]
    decide
theorem cd_xp41 (ha : cd_Pa s a) : ∀ d i x y, i + d = 4 → post (cd_px s d i x y) (fc, fr, a, r, nw, th) → wX_permutations_41 post fc fr a r nw th (d + 1) x y (nI i) := by
  intro d
  induction d with
  | zero =>
    intro i x y hi hp
    have e : i = 4 := by omega
    subst e
    exact br_t (nI_le (a := 4) (Nat.le_refl _) (by decide)) hp
  | succ d ih =>
    intro i x y hi hp
    have hq := cd_pt_lt s i
    have hin : vp_in (nI i) 4 := vp_in_nI (by omega) (by decide)
    have ei : a (nI i).toNatClampNeg = nI (cd_pt s i) := by rw [nI_clamp (by omega)]; exact ha i (by omega)
    refine br_f (nI_ge (b := 4) (by omega) (by decide)) ⟨hin, pk_le (cd_pt s i) 0 (fun h => ?_) (fun h => ?_) ei⟩
    · rw [cd_px_z (by omega)] at hp
      exact nm_r (nI_1 i) (ih (i + 1) x y (by omega) hp)
    · rw [cd_px_n (by omega)] at hp
      have k := ih (i + 1) _ _ (by omega) hp
      cases i with
      | zero =>
        refine br_t (nI_le (Nat.le_refl 0) (by decide)) ?_
        unfold wX_permutations_88
        exact cd_xp89 (by omega) ha k
      | succ i =>
        have hq' := cd_pt_lt s i
        refine br_f (nI_nle (by omega) (by omega)) ⟨hin, ?_⟩
        rw [nI_pred]
        refine ⟨vp_in_nI (by omega) (by decide), ?_⟩
        refine pk_eq (cd_pt s (i + 1)) (cd_pt s i) (fun h2 => ?_) (fun h2 => ?_) ei (by rw [nI_clamp (by omega)]; exact ha i (by omega))
        · have e : cd_ag s (i + 1) y = y + 1 := by
            rw [cd_ag, if_neg (by omega)]
            exact if_pos h2
          rw [e] at k
          exact cd_xp89 (by omega) ha k
        · have e : cd_ag s (i + 1) y = 1 := by
            rw [cd_ag, if_neg (by omega)]
            exact if_neg h2
          rw [e] at k
          unfold wX_permutations_88
          exact cd_xp89 (by omega) ha k
theorem cd_xp18 {n : Nat} (hn : n ≤ 7) (ha : cd_Pa s a) : ∀ d i x, i + d = n + 1 → post (cd_px s 4 0 (cd_fa d i x) 0) (fc, fr, a, r, nw, th) → wX_permutations_18 post (nI n) fc fr a r nw th (d + 1) x (nI i) := by
  intro d
  induction d with
  | zero =>
    intro i x hi hp
    exact br_t (nI_lt (by omega) (by omega)) ⟨4 + 1, cd_xp41 ha 4 0 x 0 rfl hp⟩
  | succ d ih =>
    intro i x hi hp
    exact br_f (nI_nlt (by omega) (by omega)) (nm_e (nm_r (nI_1 i) (ih (i + 1) _ (by omega) hp)))
end
def cd_pz (t x : Int32) : Int32 := if t ≤ 0 then x / 1 else x / t
section
variable {post : Int32 → Prop} {J : Int32 → Int32 → Int32 → Prop} {fc : Int32} {po ne : Nat → Int32} {s : Nat}
theorem cd_yp86 {x1 x3 x z : Int32} {i q : Nat} (hq : q < 8) (hJ : J (if q = 0 then x else x * nI q * z) z (nI (i + 1))) : wY_permutations_86 post J x1 x3 x (nI i) (nI q) z fc po ne := by
  unfold wY_permutations_86
  refine pk_le q 0 (fun h => ?_) (fun h => ?_)
  · rw [if_pos (by omega)] at hJ
    exact nm_r (nI_1 i) hJ
  · rw [if_neg (by omega)] at hJ
    exact nm_e (nm_r (nI_1 i) hJ)
theorem cd_yp44 {x3 : Int32} (hs : s < 4096) : ∀ d i x y, i + d = 4 → post (cd_pz (cd_py s d i x y) x3) → wY_permutations_44 post (nI s) x3 fc po ne (d + 1) x y (nI i) := by
  intro d
  induction d with
  | zero =>
    intro i x y hi hp
    have e : i = 4 := by omega
    subst e
    refine br_t (nI_le (a := 4) (Nat.le_refl _) (by decide)) ?_
    have hp' : post (cd_pz x x3) := hp
    by_cases h : x ≤ 0
    · rw [cd_pz, if_pos h] at hp'
      exact br_t h ⟨by decide, hp'⟩
    · rw [cd_pz, if_neg h] at hp'
      exact br_f h ⟨fun e => h (by rw [e]; decide), hp'⟩
  | succ d ih =>
    intro i x y hi hp
    have hq := cd_pt_lt s i
    have ei := cd_part (i := i) hs (by omega)
    have k := ih (i + 1) _ _ (by omega) hp
    refine br_f (nI_ge (b := 4) (by omega) (by decide)) ?_
    unfold wpY_part
    dsimp only
    rw [ei]
    cases i with
    | zero =>
      refine br_t (nI_le (Nat.le_refl 0) (by decide)) ?_
      unfold wY_permutations_85
      exact cd_yp86 hq k
    | succ i =>
      have hq' := cd_pt_lt s i
      refine br_f (nI_nle (by omega) (by omega)) ?_
      rw [nI_pred, cd_part hs (by omega)]
      refine pk_eq (cd_pt s (i + 1)) (cd_pt s i) (fun h2 => ?_) (fun h2 => ?_)
      · have e : cd_ag s (i + 1) y = y + 1 := by
          rw [cd_ag, if_neg (by omega)]
          exact if_pos h2
        rw [e] at k
        exact cd_yp86 hq k
      · have e : cd_ag s (i + 1) y = 1 := by
          rw [cd_ag, if_neg (by omega)]
          exact if_neg h2
        rw [e] at k
        unfold wY_permutations_85
        exact cd_yp86 hq k
theorem cd_yp18 {n : Nat} (hs : s < 4096) (hn : n ≤ 7) : ∀ d i x, i + d = n + 1 → post (cd_pz (cd_py s 4 0 1 0) (cd_fa d i x)) → wY_permutations_18 post (nI s) (nI n) fc po ne (d + 1) x (nI i) := by
  intro d
  induction d with
  | zero =>
    intro i x hi hp
    exact br_t (nI_lt (by omega) (by omega)) ⟨4 + 1, cd_yp44 hs 4 0 1 0 rfl hp⟩
  | succ d ih =>
    intro i x hi hp
    exact br_f (nI_nlt (by omega) (by omega)) (nm_e (nm_r (nI_1 i) (ih (i + 1) _ (by omega) hp)))
end
theorem cd_perm_ck : cd_codes.all (fun s => decide (cd_px s 4 0 (cd_fa (cd_sv s - 1) 2 1) 0 = cd_pz (cd_py s 4 0 1 0) (cd_fa (cd_sv s - 1) 2 1))) = true := by decide +kernel
theorem cd_perm {s : Nat} (hs : s < 4096) (h : cd_sv s ≠ 0) : cd_pz (cd_py s 4 0 1 0) (cd_fa (cd_sv s - 1) 2 1) = cd_px s 4 0 (cd_fa (cd_sv s - 1) 2 1) 0 :=
  (of_decide_eq_true (List.all_eq_true.mp cd_perm_ck s (cd_mem hs h))).symm
end
section
/-! the loops over all codes -/
def cd_lp (st : Nat → Int32 → Int32) : Nat → Nat → Int32 → Int32
  | 0, _, x => x
  | d + 1, s, x => cd_lp st d (s + 1) (st s x)
def cd_scn (n : Int32) (s : Nat) (x : Int32) : Int32 := if cd_rd (nI s) = n then x + 1 else x
def cd_ssq (n : Int32) (s : Nat) (x : Int32) : Int32 := if cd_rd (nI s) = n then x + cd_dv (nI s) * cd_dv (nI s) else x
def cd_sgr (n q : Int32) (s : Nat) (x : Int32) : Int32 := if cd_rd (nI s) = n then (if cd_cv (nI s) q ≤ x then x else cd_cv (nI s) q) else x
def cd_ssu (n q : Int32) (s : Nat) (x : Int32) : Int32 := if cd_rd (nI s) = n then (if cd_cv (nI s) q = 0 then x else x + 1) else x
def cd_pn (n k : Int32) : Nat → Int32 → Int32
  | 0, _ => -1000000
  | s + 1, x => if cd_rd (nI (s + 1)) = n then (if x = k then nI (s + 1) else cd_pn n k s (x + 1)) else cd_pn n k s x
theorem cd_isn {post : Int32 → Prop} {n : Int32} (h1 : ¬ n < 1) (h7 : ¬ 7 < n) (hp : post 1) : wpX_isNumber post n := br_f h1 (br_f h7 hp)
theorem cd_isn0 {post : Int32 → Prop} {n : Int32} (h : n < 1 ∨ 7 < n) (hp : post 0) : wpX_isNumber post n := by
  by_cases h1 : n < 1
  · exact br_t h1 hp
  · rcases h with h | h
    · exact absurd h h1
    · exact br_f h1 (br_t h hp)
theorem cd_lt1 {n : Int32} : n < 1 ↔ n ≤ 0 := by
  rw [Int32.lt_iff_toInt_lt, Int32.le_iff_toInt_le, show (1 : Int32).toInt = 1 from by decide, show (0 : Int32).toInt = 0 from by decide]
  omega
theorem cd_rd_ne7 {n : Int32} {s : Nat} (h : 7 < n) (hs : s < 4096) : ¬ cd_rd (nI s) = n := by
  intro e
  rw [← e, cd_rd_nI hs] at h
  have h2 := cd_sv_le s
  exact nI_nlt (b := cd_sv s) (a := 7) h2 (by decide) h
section
variable {post : Int32 → SX → Prop} {fc : Int32}
theorem cd_xcn {fr n : Int32} {r nw th : Nat → Int32} (h1 : ¬ n < 1) (h7 : ¬ 7 < n) : ∀ d s x a, s + d = 4096 → (∀ a', post (cd_lp (cd_scn n) d s x) (fc, fr, a', r, nw, th)) → wX_count_4 post n (d + 1) x (nI s) fc fr a r nw th := by
  intro d
  induction d with
  | zero =>
    intro s x a hs hp
    have e : s = 4096 := by omega
    subst e
    exact br_t (nI_le (a := 4096) (Nat.le_refl _) (by decide)) (hp a)
  | succ d ih =>
    intro s x a hs hp
    refine br_f (nI_ge (b := 4096) (by omega) (by decide)) (cd_isn h1 h7 (br_f (by decide) (cd_xread (nI s) (fun a1 _ => ?_))))
    refine br_c (fun z => ?_) (fun z => ?_)
    · have e : cd_scn n s x = x + 1 := if_pos z
      refine nm_e (nm_r (nI_1 s) (ih (s + 1) (x + 1) a1 (by omega) (fun a' => ?_)))
      have k := hp a'
      rw [cd_lp, e] at k
      exact k
    · have e : cd_scn n s x = x := if_neg z
      refine nm_r (Int32.add_zero x) (nm_r (nI_1 s) (ih (s + 1) x a1 (by omega) (fun a' => ?_)))
      have k := hp a'
      rw [cd_lp, e] at k
      exact k
theorem cd_xpn {fr n k : Int32} {r nw th : Nat → Int32} : ∀ s x a, s ≤ 4095 → (∀ a', post (cd_pn n k s x) (fc, fr, a', r, nw, th)) → wX_partition_21 post n k (s + 1) x (nI s) fc fr a r nw th := by
  intro s
  induction s with
  | zero => exact fun x a _ hp => br_t (nI_le (Nat.le_refl 0) (by decide)) (hp a)
  | succ s ih =>
    intro x a hs hp
    refine br_f (nI_nle (by omega) (by omega)) (cd_xread (nI (s + 1)) (fun a1 _ => ?_))
    refine br_c (fun z => br_c (fun z2 => ?_) (fun z2 => ?_)) (fun z => ?_)
    · have k1 := hp a1
      rw [cd_pn, if_pos z, if_pos z2] at k1
      exact k1
    · refine nm_e (nm_r (pk_m1 s) (ih (x + 1) a1 (by omega) (fun a' => ?_)))
      have k1 := hp a'
      rw [cd_pn, if_pos z, if_neg z2] at k1
      exact k1
    · refine nm_r (pk_m1 s) (ih x a1 (by omega) (fun a' => ?_))
      have k1 := hp a'
      rw [cd_pn, if_neg z] at k1
      exact k1
theorem cd_xsq {n : Int32} : ∀ d s x fr a r nw th, s + d = 4096 → (∀ fr' a' r' nw' th', post (cd_lp (cd_ssq n) d s x) (fc, fr', a', r', nw', th')) → wX_squares_14 post n (d + 1) x (nI s) fc fr a r nw th := by
  intro d
  induction d with
  | zero =>
    intro s x fr a r nw th hs hp
    have e : s = 4096 := by omega
    subst e
    exact br_t (nI_le (a := 4096) (Nat.le_refl _) (by decide)) (hp fr a r nw th)
  | succ d ih =>
    intro s x fr a r nw th hs hp
    refine br_f (nI_ge (b := 4096) (by omega) (by decide)) (cd_xread (nI s) (fun a1 _ => ?_))
    refine br_c (fun z => cd_xdeg (nI s) (fun fr2 a2 r2 nw2 th2 => ?_)) (fun z => ?_)
    · have e : cd_ssq n s x = x + cd_dv (nI s) * cd_dv (nI s) := if_pos z
      refine nm_e (nm_r (nI_1 s) (ih (s + 1) _ fr2 a2 r2 nw2 th2 (by omega) (fun fr' a' r' nw' th' => ?_)))
      have k := hp fr' a' r' nw' th'
      rw [cd_lp, e] at k
      exact k
    · have e : cd_ssq n s x = x := if_neg z
      refine nm_r (nI_1 s) (ih (s + 1) _ fr a1 r nw th (by omega) (fun fr' a' r' nw' th' => ?_))
      have k := hp fr' a' r' nw' th'
      rw [cd_lp, e] at k
      exact k
theorem cd_xgr {n q : Int32} (hn : ¬ n ≤ 0) : ∀ d s x fr a r nw th, s + d = 4096 → (∀ fr' a' r' nw' th', post (cd_lp (cd_sgr n q) d s x) (fc, fr', a', r', nw', th')) → wX_greatest_12 post q n (d + 1) x (nI s) fc fr a r nw th := by
  intro d
  induction d with
  | zero =>
    intro s x fr a r nw th hs hp
    have e : s = 4096 := by omega
    subst e
    exact br_t (nI_le (a := 4096) (Nat.le_refl _) (by decide)) (hp fr a r nw th)
  | succ d ih =>
    intro s x fr a r nw th hs hp
    refine br_f (nI_ge (b := 4096) (by omega) (by decide)) (br_f hn (cd_xread (nI s) (fun a1 _ => ?_)))
    refine br_c (fun z => cd_xchar (nI s) q (fun fr2 a2 r2 nw2 th2 => br_c (fun z2 => ?_) (fun z2 => ?_))) (fun z => ?_)
    · have e : cd_sgr n q s x = x := by rw [cd_sgr, if_pos z, if_pos z2]
      refine nm_r (nI_1 s) (ih (s + 1) _ fr2 a2 r2 nw2 th2 (by omega) (fun fr' a' r' nw' th' => ?_))
      have k := hp fr' a' r' nw' th'
      rw [cd_lp, e] at k
      exact k
    · have e : cd_sgr n q s x = cd_cv (nI s) q := by rw [cd_sgr, if_pos z, if_neg z2]
      refine nm_r (nI_1 s) (ih (s + 1) _ fr2 a2 r2 nw2 th2 (by omega) (fun fr' a' r' nw' th' => ?_))
      have k := hp fr' a' r' nw' th'
      rw [cd_lp, e] at k
      exact k
    · have e : cd_sgr n q s x = x := if_neg z
      refine nm_r (nI_1 s) (ih (s + 1) _ fr a1 r nw th (by omega) (fun fr' a' r' nw' th' => ?_))
      have k := hp fr' a' r' nw' th'
      rw [cd_lp, e] at k
      exact k
theorem cd_xsu {n q : Int32} : ∀ d s x fr a r nw th, s + d = 4096 → (∀ fr' a' r' nw' th', post (cd_lp (cd_ssu n q) d s x) (fc, fr', a', r', nw', th')) → wX_support_18 post q n (d + 1) x (nI s) fc fr a r nw th := by
  intro d
  induction d with
  | zero =>
    intro s x fr a r nw th hs hp
    have e : s = 4096 := by omega
    subst e
    exact br_t (nI_le (a := 4096) (Nat.le_refl _) (by decide)) (hp fr a r nw th)
  | succ d ih =>
    intro s x fr a r nw th hs hp
    refine br_f (nI_ge (b := 4096) (by omega) (by decide)) (cd_xread (nI s) (fun a1 _ => ?_))
    refine br_c (fun z => cd_xchar (nI s) q (fun fr2 a2 r2 nw2 th2 => br_c (fun z2 => ?_) (fun z2 => ?_))) (fun z => ?_)
    · have e : cd_ssu n q s x = x := by rw [cd_ssu, if_pos z, if_pos z2]
      refine nm_r (Int32.add_zero x) (nm_r (nI_1 s) (ih (s + 1) _ fr2 a2 r2 nw2 th2 (by omega) (fun fr' a' r' nw' th' => ?_)))
      have k := hp fr' a' r' nw' th'
      rw [cd_lp, e] at k
      exact k
    · have e : cd_ssu n q s x = x + 1 := by rw [cd_ssu, if_pos z, if_neg z2]
      refine nm_e (nm_r (nI_1 s) (ih (s + 1) _ fr2 a2 r2 nw2 th2 (by omega) (fun fr' a' r' nw' th' => ?_)))
      have k := hp fr' a' r' nw' th'
      rw [cd_lp, e] at k
      exact k
    · have e : cd_ssu n q s x = x := if_neg z
      refine nm_r (nI_1 s) (ih (s + 1) _ fr a1 r nw th (by omega) (fun fr' a' r' nw' th' => ?_))
      have k := hp fr' a' r' nw' th'
      rw [cd_lp, e] at k
      exact k
end
end
section
/-! the reference's loops over all codes -/
section
variable {post : Int32 → Prop} {fc : Int32} {po ne : Nat → Int32}
theorem cd_ycn {n : Int32} (hn : ¬ n ≤ 0) : ∀ d s x, s + d = 4096 → post (cd_lp (cd_scn n) d s x) → wY_count_4 post n fc po ne (d + 1) x (nI s) := by
  intro d
  induction d with
  | zero =>
    intro s x hs hp
    have e : s = 4096 := by omega
    subst e
    exact br_t (nI_le (a := 4096) (Nat.le_refl _) (by decide)) hp
  | succ d ih =>
    intro s x hs hp
    refine br_f (nI_ge (b := 4096) (by omega) (by decide)) (br_f hn (cd_ysum (nI s) ?_))
    refine br_c (fun z => ?_) (fun z => ?_)
    · have e : cd_scn n s x = x + 1 := if_pos z
      rw [cd_lp, e] at hp
      exact nm_e (nm_r (nI_1 s) (ih (s + 1) (x + 1) (by omega) hp))
    · have e : cd_scn n s x = x := if_neg z
      rw [cd_lp, e] at hp
      exact nm_r (nI_1 s) (ih (s + 1) x (by omega) hp)
theorem cd_ypn {n k : Int32} (hn : ¬ n ≤ 0) : ∀ s x, s ≤ 4095 → post (cd_pn n k s x) → wY_partition_7 post n k fc po ne (s + 1) x (nI s) := by
  intro s
  induction s with
  | zero => exact fun x _ hp => br_t (nI_le (Nat.le_refl 0) (by decide)) hp
  | succ s ih =>
    intro x hs hp
    refine br_f (nI_nle (by omega) (by omega)) (br_f hn (cd_ysum (nI (s + 1)) ?_))
    refine br_c (fun z => br_c (fun z2 => ?_) (fun z2 => ?_)) (fun z => ?_)
    · rw [cd_pn, if_pos z, if_pos z2] at hp
      exact hp
    · rw [cd_pn, if_pos z, if_neg z2] at hp
      exact nm_e (nm_r (pk_m1 s) (ih (x + 1) (by omega) hp))
    · rw [cd_pn, if_neg z] at hp
      exact nm_r (pk_m1 s) (ih x (by omega) hp)
end
section
variable {post : Int32 → SY → Prop} {fc : Int32} {po ne : Nat → Int32}
theorem cd_ysq {N : Nat} (hN : 1 ≤ N) (hN7 : N ≤ 7) (hR : cd_Rp (cd_fo (List.replicate N 1)) po) : ∀ d s x, s + d = 4096 → post (cd_lp (cd_ssq (nI N)) d s x) (fc, po, ne) → wY_squares_23 post (nI N) fc po ne (d + 1) x (nI s) := by
  intro d
  induction d with
  | zero =>
    intro s x hs hp
    have e : s = 4096 := by omega
    subst e
    exact br_t (nI_le (a := 4096) (Nat.le_refl _) (by decide)) hp
  | succ d ih =>
    intro s x hs hp
    have hs4 : s < 4096 := by omega
    refine br_f (nI_ge (b := 4096) (by omega) (by decide)) (cd_ysum (nI s) ?_)
    refine br_c (fun z => cd_yco hs4 hR ?_) (fun z => ?_)
    · have e : cd_ssq (nI N) s x = x + cd_dv (nI s) * cd_dv (nI s) := if_pos z
      rw [cd_rd_nI hs4] at z
      have h7 := cd_sv_le s
      have ez : cd_sv s = N := (nI_eq (by omega) (by omega)).mp z
      have ev := cd_dv_nI hs4 (by omega)
      rw [ez] at ev
      rw [cd_lp, e, ev] at hp
      exact nm_e (nm_r (nI_1 s) (ih (s + 1) _ (by omega) hp))
    · have e : cd_ssq (nI N) s x = x := if_neg z
      rw [cd_lp, e] at hp
      exact nm_r (nI_1 s) (ih (s + 1) x (by omega) hp)
theorem cd_ygr {m : Nat} (hm : m < 4096) (hmv : cd_sv m ≠ 0) (hR : cd_Rp (cd_fo (cd_rl m 4)) po) : ∀ d s x, s + d = 4096 → post (cd_lp (cd_sgr (nI (cd_sv m)) (nI m)) d s x) (fc, po, ne) → wY_greatest_24 post (nI (cd_sv m)) fc po ne (d + 1) x (nI s) := by
  intro d
  induction d with
  | zero =>
    intro s x hs hp
    have e : s = 4096 := by omega
    subst e
    exact br_t (nI_le (a := 4096) (Nat.le_refl _) (by decide)) hp
  | succ d ih =>
    intro s x hs hp
    have hs4 : s < 4096 := by omega
    refine br_f (nI_ge (b := 4096) (by omega) (by decide)) (cd_ysum (nI s) ?_)
    refine br_c (fun z => cd_yco hs4 hR ?_) (fun z => ?_)
    · have ez : cd_sv s = cd_sv m := cd_sv_inj (by rw [← cd_rd_nI hs4]; exact z)
      have ev := cd_cv_nI hs4 hm hmv ez
      refine br_c (fun z2 => ?_) (fun z2 => ?_)
      · have e : cd_sgr (nI (cd_sv m)) (nI m) s x = x := by rw [cd_sgr, if_pos z, ev, if_pos z2]
        rw [cd_lp, e] at hp
        exact nm_r (nI_1 s) (ih (s + 1) x (by omega) hp)
      · have e : cd_sgr (nI (cd_sv m)) (nI m) s x = nI (cd_fo (cd_rl m 4) (cd_ce s)) := by rw [cd_sgr, if_pos z, ev, if_neg z2]
        rw [cd_lp, e] at hp
        exact nm_r (nI_1 s) (ih (s + 1) _ (by omega) hp)
    · have e : cd_sgr (nI (cd_sv m)) (nI m) s x = x := if_neg z
      rw [cd_lp, e] at hp
      exact nm_r (nI_1 s) (ih (s + 1) x (by omega) hp)
theorem cd_ysu {m : Nat} (hm : m < 4096) (hmv : cd_sv m ≠ 0) (hR : cd_Rp (cd_fo (cd_rl m 4)) po) : ∀ d s x, s + d = 4096 → post (cd_lp (cd_ssu (nI (cd_sv m)) (nI m)) d s x) (fc, po, ne) → wY_support_23 post (nI (cd_sv m)) fc po ne (d + 1) x (nI s) := by
  intro d
  induction d with
  | zero =>
    intro s x hs hp
    have e : s = 4096 := by omega
    subst e
    exact br_t (nI_le (a := 4096) (Nat.le_refl _) (by decide)) hp
  | succ d ih =>
    intro s x hs hp
    have hs4 : s < 4096 := by omega
    refine br_f (nI_ge (b := 4096) (by omega) (by decide)) (cd_ysum (nI s) ?_)
    refine br_c (fun z => cd_yco hs4 hR ?_) (fun z => ?_)
    · have ez : cd_sv s = cd_sv m := cd_sv_inj (by rw [← cd_rd_nI hs4]; exact z)
      have ev := cd_cv_nI hs4 hm hmv ez
      refine br_c (fun z2 => ?_) (fun z2 => ?_)
      · have e : cd_ssu (nI (cd_sv m)) (nI m) s x = x := by rw [cd_ssu, if_pos z, ev, if_pos z2]
        rw [cd_lp, e] at hp
        exact nm_r (nI_1 s) (ih (s + 1) x (by omega) hp)
      · have e : cd_ssu (nI (cd_sv m)) (nI m) s x = x + 1 := by rw [cd_ssu, if_pos z, ev, if_neg z2]
        rw [cd_lp, e] at hp
        exact nm_e (nm_r (nI_1 s) (ih (s + 1) _ (by omega) hp))
    · have e : cd_ssu (nI (cd_sv m)) (nI m) s x = x := if_neg z
      rw [cd_lp, e] at hp
      exact nm_r (nI_1 s) (ih (s + 1) x (by omega) hp)
end
/-! numbers that are none -/
theorem cd_lp_no {n : Int32} (h : 7 < n) : ∀ d s x, s + d = 4096 → cd_lp (cd_scn n) d s x = x := by
  intro d
  induction d with
  | zero => exact fun s x _ => rfl
  | succ d ih =>
    intro s x hs
    have e : cd_scn n s x = x := if_neg (cd_rd_ne7 h (by omega))
    rw [cd_lp, e, ih (s + 1) x (by omega)]
theorem cd_pn_no {n k : Int32} (h : 7 < n) : ∀ s x, s ≤ 4095 → cd_pn n k s x = -1000000 := by
  intro s
  induction s with
  | zero => exact fun x _ => rfl
  | succ s ih =>
    intro x hs
    rw [cd_pn, if_neg (cd_rd_ne7 h (by omega)), ih x (by omega)]
theorem cd_pn_neg {n k : Int32} (h : ¬ 0 ≤ k) : ∀ s j, s + j ≤ 4095 → cd_pn n k s (nI j) = -1000000 := by
  intro s
  induction s with
  | zero => exact fun x _ => rfl
  | succ s ih =>
    intro j hs
    have hne : ¬ nI j = k := fun e => h (by rw [← e]; exact nI_pos' (by omega))
    have i1 := ih (j + 1) (by omega)
    have i2 := ih j (by omega)
    rw [cd_pn, if_neg hne, nI_1, i1, i2]
    split <;> rfl
end
section
/-- the two hold the same chosen shape; all else is written anew in each call -/
def i_Rel (k : Nat) (u : SX) (v : SY) : Prop := u.1 = v.1
theorem i_up {k : Nat} {u : SX} {v : SY} (h : i_Rel k u v) : i_Rel (k + 3) u v := h
theorem i_vc0 : wpX_init (fun u => wpY_init (fun v => i_Rel 0 u v)) := rfl
theorem i_vc_choose {k : Nat} {u : SX} {v : SY} (I : i_Rel k u v) (hk : k + 3 ≤ 1536) (v1 : Int32) : wpX_choose (fun r u' => wpY_choose (fun r' v' => r' = r ∧ i_Rel (k + 3) u' v') v v1) u v1 := by
  obtain ⟨fc, fr, a, r, nw, th⟩ := u
  obtain ⟨fc', po, ne⟩ := v
  have e : fc = fc' := I
  subst e
  unfold wpX_choose
  dsimp only
  refine cd_xread v1 (fun a1 _ => ?_)
  unfold wpY_choose
  dsimp only
  by_cases z : cd_rd v1 = 0
  · exact br_t z (cd_ysum v1 (br_t z ⟨rfl, rfl⟩))
  · exact br_f z (cd_ysum v1 (br_f z ⟨rfl, rfl⟩))
theorem i_vc_shape {k : Nat} {u : SX} {v : SY} (I : i_Rel k u v) (hk : k + 3 ≤ 1536) : wpX_shape (fun r => wpY_shape (fun r' => r' = r ∧ i_Rel (k + 3) u v) v) u := by
  obtain ⟨fc, fr, a, r, nw, th⟩ := u
  obtain ⟨fc', po, ne⟩ := v
  have e : fc = fc' := I
  subst e
  exact ⟨rfl, rfl⟩
theorem i_vc_at {k : Nat} {u : SX} {v : SY} (I : i_Rel k u v) (hk : k + 3 ≤ 1536) (v1 : Int32) : wpX_at (fun r u' => wpY_at (fun r' v' => r' = r ∧ i_Rel (k + 3) u' v') v v1) u v1 := by
  obtain ⟨fc, fr, a, r, nw, th⟩ := u
  obtain ⟨fc', po, ne⟩ := v
  have e : fc = fc' := I
  subst e
  unfold wpX_at wpY_at
  dsimp only
  by_cases z : fc = 0
  · refine br_t z (cd_ychar fc v1 (fun po' ne' => ⟨?_, rfl⟩))
    have z0 : cd_rd fc = 0 := by
      rw [z]
      exact (by decide +kernel : cd_rd 0 = 0)
    by_cases zq : cd_rd v1 = 0
    · rw [cd_cv, if_pos zq]
    · rw [cd_cv, if_neg zq, if_neg (fun e => zq (by rw [← e]; exact z0))]
  · exact br_f z (cd_xchar fc v1 (fun fr' a' r' nw' th' => cd_ychar fc v1 (fun po' ne' => ⟨rfl, rfl⟩)))
theorem i_vc_character {k : Nat} {u : SX} {v : SY} (I : i_Rel k u v) (hk : k + 3 ≤ 1536) (v1 : Int32) (v2 : Int32) : wpX_character (fun r u' => wpY_character (fun r' v' => r' = r ∧ i_Rel (k + 3) u' v') v v1 v2) u v1 v2 := by
  obtain ⟨fc, fr, a, r, nw, th⟩ := u
  obtain ⟨fc', po, ne⟩ := v
  have e : fc = fc' := I
  subst e
  exact cd_xchar v1 v2 (fun fr' a' r' nw' th' => cd_ychar v1 v2 (fun po' ne' => ⟨rfl, rfl⟩))
theorem i_vc_degree {k : Nat} {u : SX} {v : SY} (I : i_Rel k u v) (hk : k + 3 ≤ 1536) (v1 : Int32) : wpX_degree (fun r u' => wpY_degree (fun r' v' => r' = r ∧ i_Rel (k + 3) u' v') v v1) u v1 := by
  obtain ⟨fc, fr, a, r, nw, th⟩ := u
  obtain ⟨fc', po, ne⟩ := v
  have e : fc = fc' := I
  subst e
  exact cd_xdeg v1 (fun fr' a' r' nw' th' => cd_ydeg v1 (fun po' ne' => ⟨rfl, rfl⟩))
theorem i_vc_count {k : Nat} {u : SX} {v : SY} (I : i_Rel k u v) (hk : k + 3 ≤ 1536) (v1 : Int32) : wpX_count (fun r u' => wpY_count (fun r' => r' = r ∧ i_Rel (k + 3) u' v) v v1) u v1 := by
  obtain ⟨fc, fr, a, r, nw, th⟩ := u
  obtain ⟨fc', po, ne⟩ := v
  have e : fc = fc' := I
  subst e
  by_cases h1 : v1 < 1
  · refine ⟨1, br_f (nI_ge (a := 1) (b := 4096) (by decide) (by decide)) (cd_isn0 (Or.inl h1) (br_t rfl ?_))⟩
    exact ⟨1, br_f (nI_ge (a := 1) (b := 4096) (by decide) (by decide)) (br_t (cd_lt1.mp h1) ⟨rfl, rfl⟩)⟩
  · have hn : ¬ v1 ≤ 0 := fun z => h1 (cd_lt1.mpr z)
    by_cases h7 : 7 < v1
    · refine ⟨1, br_f (nI_ge (a := 1) (b := 4096) (by decide) (by decide)) (cd_isn0 (Or.inr h7) (br_t rfl ?_))⟩
      exact ⟨4095 + 1, cd_ycn hn 4095 1 0 rfl ⟨cd_lp_no h7 4095 1 0 rfl, rfl⟩⟩
    · exact ⟨4095 + 1, cd_xcn h1 h7 4095 1 0 a rfl (fun a' => ⟨4095 + 1, cd_ycn hn 4095 1 0 rfl ⟨rfl, rfl⟩⟩)⟩
theorem i_vc_partition {k : Nat} {u : SX} {v : SY} (I : i_Rel k u v) (hk : k + 3 ≤ 1536) (v1 : Int32) (v2 : Int32) : wpX_partition (fun r u' => wpY_partition (fun r' => r' = r ∧ i_Rel (k + 3) u' v) v v1 v2) u v1 v2 := by
  obtain ⟨fc, fr, a, r, nw, th⟩ := u
  obtain ⟨fc', po, ne⟩ := v
  have e : fc = fc' := I
  subst e
  unfold wpX_partition
  dsimp only
  by_cases h1 : v1 < 1
  · refine cd_isn0 (Or.inl h1) (br_t rfl ?_)
    exact ⟨1, br_f (nI_nle (n := 4095) (by decide) (by decide)) (br_t (cd_lt1.mp h1) ⟨rfl, rfl⟩)⟩
  · have hn : ¬ v1 ≤ 0 := fun z => h1 (cd_lt1.mpr z)
    by_cases h7 : 7 < v1
    · refine cd_isn0 (Or.inr h7) (br_t rfl ?_)
      exact ⟨4095 + 1, cd_ypn hn 4095 0 (by decide) ⟨cd_pn_no h7 4095 0 (by decide), rfl⟩⟩
    · refine cd_isn h1 h7 (br_f (by decide) ?_)
      by_cases h0 : 0 ≤ v2
      · exact br_t h0 ⟨4095 + 1, cd_xpn 4095 0 a (by decide) (fun a' => ⟨4095 + 1, cd_ypn hn 4095 0 (by decide) ⟨rfl, rfl⟩⟩)⟩
      · exact br_f h0 ⟨4095 + 1, cd_ypn hn 4095 0 (by decide) ⟨cd_pn_neg h0 4095 0 (by decide), rfl⟩⟩
theorem i_vc_turned {k : Nat} {u : SX} {v : SY} (I : i_Rel k u v) (hk : k + 3 ≤ 1536) (v1 : Int32) : wpX_turned (fun r u' => wpY_turned (fun r' => r' = r ∧ i_Rel (k + 3) u' v) v v1) u v1 := by
  obtain ⟨fc, fr, a, r, nw, th⟩ := u
  obtain ⟨fc', po, ne⟩ := v
  have e : fc = fc' := I
  subst e
  unfold wpX_turned
  dsimp only
  refine cd_xread v1 (fun a1 h1 => ?_)
  unfold wpY_turned
  dsimp only
  by_cases z : cd_rd v1 = 0
  · exact br_t z (cd_ysum v1 (br_t z ⟨rfl, rfl⟩))
  · obtain ⟨s, hs, es, hsv, hrs⟩ := cd_rd_ne z
    have ha := h1 s hs es hsv
    subst es
    have h8 := cd_pt_lt s 0
    have ep : (nI s >>> ((3 * (0 : Int32)) &&& 31)) &&& 7 = nI (cd_pt s 0) := cd_part (i := 0) hs (by decide)
    refine br_f z (pk_le (cd_pt s 0) 4 (fun h => ?_) (fun h => ?_) (ha 0 (by decide)))
    · refine ⟨4 + 1, cd_xt25 ha 4 0 (by decide) (cd_ysum (nI s) (br_f z ?_))⟩
      refine pk_le (cd_pt s 0) 4 (fun _ => ?_) (fun h2 => absurd h (by omega)) ep
      exact ⟨4 + 1, cd_yt25 hs 4 0 0 rfl ⟨congrArg nI (cd_turn hs hsv), rfl⟩⟩
    · refine cd_ysum (nI s) (br_f z ?_)
      exact pk_le (cd_pt s 0) 4 (fun h2 => absurd h (by omega)) (fun _ => ⟨rfl, rfl⟩) ep
theorem i_vc_permutations {k : Nat} {u : SX} {v : SY} (I : i_Rel k u v) (hk : k + 3 ≤ 1536) (v1 : Int32) : wpX_permutations (fun r u' => wpY_permutations (fun r' => r' = r ∧ i_Rel (k + 3) u' v) v v1) u v1 := by
  obtain ⟨fc, fr, a, r, nw, th⟩ := u
  obtain ⟨fc', po, ne⟩ := v
  have e : fc = fc' := I
  subst e
  unfold wpX_permutations
  dsimp only
  refine cd_xread v1 (fun a1 h1 => ?_)
  unfold wpY_permutations
  dsimp only
  by_cases z : cd_rd v1 = 0
  · exact br_t z (cd_ysum v1 (br_t z ⟨rfl, rfl⟩))
  · obtain ⟨s, hs, es, hsv, hrs⟩ := cd_rd_ne z
    have ha := h1 s hs es hsv
    have h7 := cd_sv_le s
    refine br_f z ?_
    rw [hrs, es]
    refine ⟨cd_sv s - 1 + 1, cd_xp18 h7 ha (cd_sv s - 1) 2 1 (by omega) (cd_ysum (nI s) ?_)⟩
    rw [cd_rd_nI hs]
    refine br_f (by rw [← hrs]; exact z) ⟨cd_sv s - 1 + 1, cd_yp18 hs h7 (cd_sv s - 1) 2 1 (by omega) ⟨cd_perm hs hsv, rfl⟩⟩
theorem i_vc_squares {k : Nat} {u : SX} {v : SY} (I : i_Rel k u v) (hk : k + 3 ≤ 1536) (v1 : Int32) : wpX_squares (fun r u' => wpY_squares (fun r' v' => r' = r ∧ i_Rel (k + 3) u' v') v v1) u v1 := by
  obtain ⟨fc, fr, a, r, nw, th⟩ := u
  obtain ⟨fc', po, ne⟩ := v
  have e : fc = fc' := I
  subst e
  unfold wpX_squares wpY_squares
  dsimp only
  by_cases h1 : v1 < 1
  · exact cd_isn0 (Or.inl h1) (br_t rfl (br_t h1 ⟨rfl, rfl⟩))
  · by_cases h7 : 7 < v1
    · exact cd_isn0 (Or.inr h7) (br_t rfl (br_f h1 (br_f (Int32.not_le.mpr h7) ⟨rfl, rfl⟩)))
    · have h7' : v1 ≤ 7 := Int32.not_lt.mp h7
      have hn : ¬ v1 < 0 := fun z => h1 (Int32.lt_trans z (by decide))
      obtain ⟨N, hN, eN⟩ := nI_of2 (n := 7) (by decide) hn h7'
      have hN1 : 1 ≤ N := by
        rcases Nat.eq_zero_or_pos N with z | z
        · exact absurd (by rw [eN, z]; decide) h1
        · exact z
      refine cd_isn h1 h7 (br_f (by decide) ⟨4095 + 1, cd_xsq 4095 1 0 fr a r nw th rfl (fun fr' a' r' nw' th' => br_f h1 (br_t h7' ?_))⟩)
      subst eN
      exact cd_yon (by omega) (fun po1 ne1 hR => ⟨4095 + 1, cd_ysq hN1 hN hR 4095 1 0 rfl ⟨rfl, rfl⟩⟩)
theorem i_vc_vanishes {k : Nat} {u : SX} {v : SY} (I : i_Rel k u v) (hk : k + 3 ≤ 1536) (v1 : Int32) (v2 : Int32) : wpX_vanishes (fun r u' => wpY_vanishes (fun r' v' => r' = r ∧ i_Rel (k + 3) u' v') v v1 v2) u v1 v2 := by
  obtain ⟨fc, fr, a, r, nw, th⟩ := u
  obtain ⟨fc', po, ne⟩ := v
  have e : fc = fc' := I
  subst e
  unfold wpX_vanishes wpY_vanishes
  dsimp only
  refine cd_xchar v1 v2 (fun fr' a' r' nw' th' => ?_)
  by_cases z : cd_cv v1 v2 = 0
  · exact br_t z (cd_ychar v1 v2 (fun po' ne' => br_t z ⟨rfl, rfl⟩))
  · exact br_f z (cd_ychar v1 v2 (fun po' ne' => br_f z ⟨rfl, rfl⟩))
theorem i_vc_greatest {k : Nat} {u : SX} {v : SY} (I : i_Rel k u v) (hk : k + 3 ≤ 1536) (v1 : Int32) : wpX_greatest (fun r u' => wpY_greatest (fun r' v' => r' = r ∧ i_Rel (k + 3) u' v') v v1) u v1 := by
  obtain ⟨fc, fr, a, r, nw, th⟩ := u
  obtain ⟨fc', po, ne⟩ := v
  have e : fc = fc' := I
  subst e
  unfold wpX_greatest
  dsimp only
  refine cd_xread v1 (fun a1 h1 => ?_)
  unfold wpY_greatest
  dsimp only
  by_cases z : cd_rd v1 = 0
  · exact ⟨1, br_f (nI_ge (a := 1) (b := 4096) (by decide) (by decide)) (br_t (by rw [z]; decide) (cd_ysum v1 (br_t z ⟨rfl, rfl⟩)))⟩
  · obtain ⟨m, hm, em, hmv, hrm⟩ := cd_rd_ne z
    have h7 := cd_sv_le m
    have hn : ¬ cd_rd v1 ≤ 0 := by rw [hrm]; exact nI_nle (by omega) (by omega)
    refine ⟨4095 + 1, cd_xgr hn 4095 1 (-1000000) fr a1 r nw th rfl (fun fr' a' r' nw' th' => cd_ysum v1 (br_f z ?_))⟩
    rw [hrm]
    subst em
    exact cd_ycy hm (fun po1 ne1 hR => ⟨4095 + 1, cd_ygr hm hmv hR 4095 1 (-1000000) rfl ⟨rfl, rfl⟩⟩)
theorem i_vc_support {k : Nat} {u : SX} {v : SY} (I : i_Rel k u v) (hk : k + 3 ≤ 1536) (v1 : Int32) : wpX_support (fun r u' => wpY_support (fun r' v' => r' = r ∧ i_Rel (k + 3) u' v') v v1) u v1 := by
  obtain ⟨fc, fr, a, r, nw, th⟩ := u
  obtain ⟨fc', po, ne⟩ := v
  have e : fc = fc' := I
  subst e
  unfold wpX_support
  dsimp only
  refine cd_xread v1 (fun a1 h1 => ?_)
  unfold wpY_support
  dsimp only
  by_cases z : cd_rd v1 = 0
  · exact br_t z (cd_ysum v1 (br_t z ⟨rfl, rfl⟩))
  · obtain ⟨m, hm, em, hmv, hrm⟩ := cd_rd_ne z
    refine br_f z ⟨4095 + 1, cd_xsu 4095 1 0 fr a1 r nw th rfl (fun fr' a' r' nw' th' => cd_ysum v1 (br_f z ?_))⟩
    rw [hrm]
    subst em
    exact cd_ycy hm (fun po1 ne1 hR => ⟨4095 + 1, cd_ysu hm hmv hR 4095 1 0 rfl ⟨rfl, rfl⟩⟩)
end
