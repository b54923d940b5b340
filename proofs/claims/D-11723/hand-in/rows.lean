section
/-! ===== the pure picture: polynomials are numbers below 65536, bit m for the monomial m ===== -/
def bb_cx (c : Bool) (r t : Nat) : Nat := bif c then r ^^^ t else r
/-- times: f by the monomial m, the first k monomials of f -/
def bb_tm (f m : Nat) : Nat → Nat
  | 0 => 0
  | k + 1 => bb_cx (f.testBit k) (bb_tm f m k) (2 ^ (k ||| m))
/-- product: the first k monomials of g -/
def bb_pr (f g : Nat) : Nat → Nat
  | 0 => 0
  | k + 1 => bb_cx (g.testBit k) (bb_pr f g k) (bb_tm f k 16)
/-- value at the point p, the first k monomials -/
def bb_va (f p : Nat) : Nat → Nat
  | 0 => 0
  | k + 1 => bif (k &&& (15 ^^^ p) == 0) then bb_va f p k ^^^ (f.testBit k).toNat else bb_va f p k
/-- the head among the first k monomials, plus 1; 0: there is none -/
def bb_hd (f : Nat) : Nat → Nat
  | 0 => 0
  | k + 1 => bif f.testBit k then k + 1 else bb_hd f k
/-- the first polynomial whose head divides m -/
def bb_dv (ps : List (Nat × Nat)) (m : Nat) : Option (Nat × Nat) := ps.find? (fun q => q.2 &&& (15 ^^^ m) == 0)
/-- what one step of reduce takes away at the monomial m -/
def bb_T (ps : List (Nat × Nat)) (m : Nat) : Nat := match bb_dv ps m with
  | none => 0
  | some q => bb_tm q.1 (m &&& (15 ^^^ q.2)) 16
/-- reduce: the monomials below k -/
def bb_rd (ps : List (Nat × Nat)) : Nat → Nat → Nat
  | 0, r => r
  | k + 1, r => bb_rd ps k (bb_cx (r.testBit k) r (bb_T ps k))
def bb_tk (ps : List (Nat × Nat)) (r : Nat) : List (Nat × Nat) := bif (r == 0) then ps else bif (Nat.blt ps.length 32) then ps ++ [(r, bb_hd r 16 - 1)] else ps
/-- takeIn -/
def bb_ti (ps : List (Nat × Nat)) (f : Nat) : List (Nat × Nat) := bb_tk ps (bb_rd ps 16 f)
def bb_at (ps : List (Nat × Nat)) (i : Nat) : Nat × Nat := ps.getD i (0, 0)
/-- takeSquares: one variable, the variables below k -/
def bb_sv (ps : List (Nat × Nat)) (i v : Nat) : List (Nat × Nat) := bif (bb_at ps i).2.testBit v then bb_ti ps (bb_tm (bb_at ps i).1 (2 ^ v) 16 ^^^ (bb_at ps i).1) else ps
def bb_sq (ps : List (Nat × Nat)) (i : Nat) : Nat → List (Nat × Nat)
  | 0 => ps
  | v + 1 => bb_sv (bb_sq ps i v) i v
/-- takeDifference -/
def bb_df (ps : List (Nat × Nat)) (i j : Nat) : List (Nat × Nat) := bb_ti ps (bb_tm (bb_at ps i).1 (((bb_at ps i).2 ||| (bb_at ps j).2) &&& (15 ^^^ (bb_at ps i).2)) 16 ^^^ bb_tm (bb_at ps j).1 (((bb_at ps i).2 ||| (bb_at ps j).2) &&& (15 ^^^ (bb_at ps j).2)) 16)
def bb_c5 (ps : List (Nat × Nat)) (i : Nat) : Nat → List (Nat × Nat)
  | 0 => ps
  | j + 1 => bb_df (bb_c5 ps i j) i j
def bb_c4 : Nat → Nat → List (Nat × Nat) → List (Nat × Nat)
  | 0, _, ps => ps
  | n + 1, i, ps => bif Nat.ble ps.length i then ps else bb_c4 n (i + 1) (bb_c5 (bb_sq ps i 4) i i)
/-- complete, of the one generator s -/
def bb_cp (s : Nat) : List (Nat × Nat) := bb_c4 33 0 (bb_ti [] s)
/-- boundSet -/
def bb_bd (ps : List (Nat × Nat)) : Nat → Nat
  | 0 => 0
  | m + 1 => bb_bd ps m ||| (bif (bb_dv ps m).isSome then 2 ^ m else 0)
/-- leastBound: the variables below v -/
def bb_lv (ps : List (Nat × Nat)) (m : Nat) : Nat → Bool
  | 0 => true
  | v + 1 => bb_lv ps m v && ((m &&& (15 ^^^ 2 ^ v)) == m || !(bb_dv ps (m &&& (15 ^^^ 2 ^ v))).isSome)
def bb_lb (ps : List (Nat × Nat)) (m : Nat) : Bool := (bb_dv ps m).isSome && bb_lv ps m 4
/-- the basis -/
def bb_bl (ps : List (Nat × Nat)) : Nat → List Nat
  | 0 => []
  | m + 1 => bif bb_lb ps m then bb_bl ps m ++ [2 ^ m ^^^ bb_rd ps 16 (2 ^ m)] else bb_bl ps m
def bb_vn (bl : List Nat) (p : Nat) : Bool := bl.all (fun b => bb_va b p 16 == 0)
/-- zeroSet -/
def bb_zs (bl : List Nat) : Nat → Nat
  | 0 => 0
  | p + 1 => bb_zs bl p ||| (bif bb_vn bl p then 2 ^ p else 0)
/-- how many of the first k bits -/
def bb_ct (z : Nat) : Nat → Nat
  | 0 => 0
  | k + 1 => bb_ct z k + (z.testBit k).toNat
/-- values(3) -/
def bb_vs (z : Nat) : Nat → Nat
  | 0 => 0
  | k + 1 => bif z.testBit k then bb_vs z k ||| 2 ^ (k.testBit 3).toNat else bb_vs z k
/-- relates(3): seen, and whether one is wanting -/
def bb_sn (z : Nat) : Nat → Nat
  | 0 => 0
  | k + 1 => bif z.testBit k then bb_sn z k ||| 2 ^ (k &&& 3) else bb_sn z k
def bb_rl (z : Nat) : Nat → Bool
  | 0 => false
  | q + 1 => bb_rl z q || ((q &&& (15 ^^^ 3)) == 0 && !z.testBit q)
/-- the law's own loops -/
def bb_on1 (p : Nat) : Nat := bb_pr (bif p.testBit 0 then 2 else 3) (bif p.testBit 1 then 4 else 5) 16
def bb_sm (t : Nat) : Nat → Nat
  | 0 => 0
  | p + 1 => bif t.testBit p then bb_sm t p else bb_sm t p ^^^ bb_on1 p
def bb_du (t : Nat) : Nat → Nat
  | 0 => 0
  | c + 1 => bif t.testBit c then bb_du t c ||| 4369 * 2 ^ c else bb_du t c
def bb_os (b : Nat) : Nat → Nat
  | 0 => 0
  | m + 1 => bb_os b m + (b.testBit m).toNat + (b.testBit (m + 4)).toNat + (b.testBit (m + 8)).toNat + (b.testBit (m + 12)).toNat
/-! the equations, by name -/
theorem bb_tm_s (f m k : Nat) : bb_tm f m (k + 1) = bb_cx (f.testBit k) (bb_tm f m k) (2 ^ (k ||| m)) := rfl
theorem bb_pr_s (f g k : Nat) : bb_pr f g (k + 1) = bb_cx (g.testBit k) (bb_pr f g k) (bb_tm f k 16) := rfl
theorem bb_va_s (f p k : Nat) : bb_va f p (k + 1) = bif (k &&& (15 ^^^ p) == 0) then bb_va f p k ^^^ (f.testBit k).toNat else bb_va f p k := rfl
theorem bb_hd_s (f k : Nat) : bb_hd f (k + 1) = bif f.testBit k then k + 1 else bb_hd f k := rfl
theorem bb_rd_s (ps : List (Nat × Nat)) (k r : Nat) : bb_rd ps (k + 1) r = bb_rd ps k (bb_cx (r.testBit k) r (bb_T ps k)) := rfl
theorem bb_sq_s (ps : List (Nat × Nat)) (i v : Nat) : bb_sq ps i (v + 1) = bb_sv (bb_sq ps i v) i v := rfl
theorem bb_c5_s (ps : List (Nat × Nat)) (i j : Nat) : bb_c5 ps i (j + 1) = bb_df (bb_c5 ps i j) i j := rfl
theorem bb_c4_s (n i : Nat) (ps : List (Nat × Nat)) : bb_c4 (n + 1) i ps = bif Nat.ble ps.length i then ps else bb_c4 n (i + 1) (bb_c5 (bb_sq ps i 4) i i) := rfl
theorem bb_bd_s (ps : List (Nat × Nat)) (m : Nat) : bb_bd ps (m + 1) = bb_bd ps m ||| (bif (bb_dv ps m).isSome then 2 ^ m else 0) := rfl
theorem bb_lv_s (ps : List (Nat × Nat)) (m v : Nat) : bb_lv ps m (v + 1) = (bb_lv ps m v && ((m &&& (15 ^^^ 2 ^ v)) == m || !(bb_dv ps (m &&& (15 ^^^ 2 ^ v))).isSome)) := rfl
theorem bb_bl_s (ps : List (Nat × Nat)) (m : Nat) : bb_bl ps (m + 1) = bif bb_lb ps m then bb_bl ps m ++ [2 ^ m ^^^ bb_rd ps 16 (2 ^ m)] else bb_bl ps m := rfl
theorem bb_zs_s (bl : List Nat) (p : Nat) : bb_zs bl (p + 1) = bb_zs bl p ||| (bif bb_vn bl p then 2 ^ p else 0) := rfl
theorem bb_ct_s (z k : Nat) : bb_ct z (k + 1) = bb_ct z k + (z.testBit k).toNat := rfl
theorem bb_vs_s (z k : Nat) : bb_vs z (k + 1) = bif z.testBit k then bb_vs z k ||| 2 ^ (k.testBit 3).toNat else bb_vs z k := rfl
theorem bb_sn_s (z k : Nat) : bb_sn z (k + 1) = bif z.testBit k then bb_sn z k ||| 2 ^ (k &&& 3) else bb_sn z k := rfl
theorem bb_rl_s (z q : Nat) : bb_rl z (q + 1) = (bb_rl z q || ((q &&& (15 ^^^ 3)) == 0 && !z.testBit q)) := rfl
theorem bb_sm_s (t p : Nat) : bb_sm t (p + 1) = bif t.testBit p then bb_sm t p else bb_sm t p ^^^ bb_on1 p := rfl
theorem bb_du_s (t c : Nat) : bb_du t (c + 1) = bif t.testBit c then bb_du t c ||| 4369 * 2 ^ c else bb_du t c := rfl
theorem bb_os_s (b m : Nat) : bb_os b (m + 1) = bb_os b m + (b.testBit m).toNat + (b.testBit (m + 4)).toNat + (b.testBit (m + 8)).toNat + (b.testBit (m + 12)).toNat := rfl
/-! ===== rows on xor ===== -/
theorem bb_cx_lin (c d : Bool) (r s t : Nat) : bb_cx (c ^^ d) (r ^^^ s) t = bb_cx c r t ^^^ bb_cx d s t := by
  cases c <;> cases d <;> (apply Nat.eq_of_testBit_eq; intro i; simp only [bb_cx, cond_true, cond_false, Bool.xor_false, Bool.false_xor, Bool.xor_self, Bool.xor_true, Bool.not_false, Nat.testBit_xor]; try (cases r.testBit i <;> cases s.testBit i <;> cases t.testBit i <;> rfl))
theorem bb_cx_0 (c : Bool) (r : Nat) : bb_cx c r 0 = r := by cases c <;> simp [bb_cx]
theorem bb_cx_lt {c : Bool} {r t : Nat} (hr : r < 65536) (ht : t < 65536) : bb_cx c r t < 65536 := by
  cases c
  · exact hr
  · exact Nat.xor_lt_two_pow (n := 16) hr ht
theorem bb_xlt {r t : Nat} (hr : r < 65536) (ht : t < 65536) : r ^^^ t < 65536 := Nat.xor_lt_two_pow (n := 16) hr ht
theorem bb_olt {a b : Nat} (ha : a < 16) (hb : b < 16) : a ||| b < 16 := Nat.or_lt_two_pow (n := 4) ha hb
theorem bb_alt {a b : Nat} (ha : a < 16) : a &&& b < 16 := Nat.lt_of_le_of_lt Nat.and_le_left ha
theorem bb_plt {k : Nat} (h : k < 16) : 2 ^ k < 65536 := Nat.pow_lt_pow_right (a := 2) (n := 16) (by omega) h
theorem bb_tm_lt {f m : Nat} (hm : m < 16) : ∀ k, k ≤ 16 → bb_tm f m k < 65536
  | 0, _ => by show 0 < 65536; omega
  | k + 1, h => bb_cx_lt (bb_tm_lt hm k (by omega)) (bb_plt (bb_olt (by omega) hm))
theorem bb_pr_lt {f g : Nat} : ∀ k, k ≤ 16 → bb_pr f g k < 65536
  | 0, _ => by show 0 < 65536; omega
  | k + 1, h => bb_cx_lt (bb_pr_lt k (by omega)) (bb_tm_lt (by omega) 16 (by omega))
theorem bb_va_le {f p : Nat} : ∀ k, bb_va f p k < 2
  | 0 => by show 0 < 2; omega
  | k + 1 => by
    have h := bb_va_le (f := f) (p := p) k
    rw [bb_va_s]
    cases (k &&& (15 ^^^ p) == 0)
    · exact h
    · exact Nat.xor_lt_two_pow (n := 1) h (by cases f.testBit k <;> decide)
theorem bb_hd_le {f : Nat} : ∀ k, bb_hd f k ≤ k
  | 0 => Nat.le_refl 0
  | k + 1 => by
    have h := bb_hd_le (f := f) k
    rw [bb_hd_s]
    cases f.testBit k
    · exact Nat.le_succ_of_le h
    · exact Nat.le_refl _
theorem bb_hd_0 {f : Nat} : ∀ k, bb_hd f k = 0 → ∀ i, i < k → f.testBit i = false
  | 0, _, i, hi => absurd hi (by omega)
  | k + 1, h, i, hi => by
    rw [bb_hd_s] at h
    cases hb : f.testBit k with
    | true => rw [hb] at h; exact absurd h (by simp)
    | false =>
      rw [hb] at h
      rcases Nat.lt_or_ge i k with z | z
      · exact bb_hd_0 k h i z
      · have : i = k := by omega
        rw [this, hb]
theorem bb_hd_pos {f : Nat} (hf : f < 65536) (h0 : f ≠ 0) : 0 < bb_hd f 16 := by
  rcases Nat.eq_zero_or_pos (bb_hd f 16) with h | h
  · exact absurd (Nat.eq_of_testBit_eq (fun i => by
      rw [Nat.zero_testBit]
      rcases Nat.lt_or_ge i 16 with z | z
      · exact bb_hd_0 16 h i z
      · exact Nat.testBit_lt_two_pow (Nat.lt_of_lt_of_le hf (Nat.pow_le_pow_right (by omega : 2 > 0) z)))) h0
  · exact h
/-! reduce is linear -/
theorem bb_rd_lin (ps : List (Nat × Nat)) : ∀ k r s, bb_rd ps k (r ^^^ s) = bb_rd ps k r ^^^ bb_rd ps k s
  | 0, _, _ => rfl
  | k + 1, r, s => by
    show bb_rd ps k (bb_cx ((r ^^^ s).testBit k) (r ^^^ s) (bb_T ps k)) = _
    rw [Nat.testBit_xor, bb_cx_lin, bb_rd_lin ps k]
    rfl
theorem bb_rd_0 (ps : List (Nat × Nat)) : ∀ k, bb_rd ps k 0 = 0
  | 0 => rfl
  | k + 1 => by
    show bb_rd ps k (bb_cx ((0 : Nat).testBit k) 0 (bb_T ps k)) = 0
    rw [Nat.zero_testBit]
    exact bb_rd_0 ps k
theorem bb_va_lin (p : Nat) : ∀ k f g, bb_va (f ^^^ g) p k = bb_va f p k ^^^ bb_va g p k
  | 0, _, _ => (Nat.xor_self 0).symm
  | k + 1, f, g => by
    rw [bb_va_s, bb_va_s, bb_va_s, bb_va_lin p k]
    cases (k &&& (15 ^^^ p) == 0)
    · rfl
    · rw [cond_true, cond_true, cond_true, Nat.testBit_xor]
      have e : (f.testBit k ^^ g.testBit k).toNat = (f.testBit k).toNat ^^^ (g.testBit k).toNat := by cases f.testBit k <;> cases g.testBit k <;> rfl
      rw [e, Nat.xor_assoc, Nat.xor_assoc, ← Nat.xor_assoc (bb_va g p k), ← Nat.xor_assoc _ (bb_va g p k), Nat.xor_comm (bb_va g p k)]
theorem bb_va_0 (p : Nat) : ∀ k, bb_va 0 p k = 0
  | 0 => rfl
  | k + 1 => by
    rw [bb_va_s, bb_va_0 p k, Nat.zero_testBit]
    cases (k &&& (15 ^^^ p) == 0) <;> rfl
/-! a number below 65536 out of its bits -/
theorem bb_ind (P : Nat → Prop) (h0 : P 0) (hx : ∀ a b, P a → P b → P (a ^^^ b)) (hb : ∀ k, k < 16 → P (2 ^ k)) : ∀ f, f < 65536 → P f := by
  have key : ∀ k, k ≤ 16 → ∀ f, f < 2 ^ k → P f := by
    intro k
    induction k with
    | zero =>
      intro _ f hf
      have : f = 0 := by have : f < 1 := hf; omega
      rw [this]; exact h0
    | succ k ih =>
      intro hk f hf
      cases hc : f.testBit k with
      | false =>
        refine ih (by omega) f (Nat.lt_pow_two_of_testBit f (fun i hi => ?_))
        rcases Nat.lt_or_ge k i with z | z
        · exact Nat.testBit_lt_two_pow (Nat.lt_of_lt_of_le hf (Nat.pow_le_pow_right (by omega) z))
        · have : i = k := by omega
          rw [this, hc]
      | true =>
        have e : f = (f ^^^ 2 ^ k) ^^^ 2 ^ k := by rw [Nat.xor_assoc, Nat.xor_self, Nat.xor_zero]
        rw [e]
        refine hx _ _ (ih (by omega) _ (Nat.lt_pow_two_of_testBit _ (fun i hi => ?_))) (hb k (by omega))
        rw [Nat.testBit_xor, Nat.testBit_two_pow]
        rcases Nat.lt_or_ge k i with z | z
        · rw [Nat.testBit_lt_two_pow (Nat.lt_of_lt_of_le hf (Nat.pow_le_pow_right (by omega) z)), decide_eq_false (by omega)]
          rfl
        · have : i = k := by omega
          rw [this, hc, decide_eq_true rfl]
          rfl
  exact fun f hf => key 16 (Nat.le_refl _) f hf
/-- the multiples of s reduce to nothing, if those by monomials do -/
theorem bb_mul {ps : List (Nat × Nat)} {s : Nat} (h : ∀ k, k < 16 → bb_rd ps 16 (bb_tm s k 16) = 0) (g : Nat) : ∀ k, k ≤ 16 → bb_rd ps 16 (bb_pr s g k) = 0
  | 0, _ => bb_rd_0 ps 16
  | k + 1, hk => by
    show bb_rd ps 16 (bb_cx (g.testBit k) (bb_pr s g k) (bb_tm s k 16)) = 0
    have ih := bb_mul h g k (by omega)
    cases g.testBit k
    · exact ih
    · show bb_rd ps 16 (bb_pr s g k ^^^ bb_tm s k 16) = 0
      rw [bb_rd_lin, ih, h k (by omega)]
      rfl
/-! takeIn: lengths -/
theorem bb_tk_len (ps : List (Nat × Nat)) (r : Nat) : ps.length ≤ (bb_tk ps r).length := by
  unfold bb_tk
  cases (r == 0)
  · cases (Nat.blt ps.length 32)
    · exact Nat.le_refl _
    · rw [cond_false, cond_true, List.length_append]
      omega
  · exact Nat.le_refl _
theorem bb_sv_len (ps : List (Nat × Nat)) (i v : Nat) : ps.length ≤ (bb_sv ps i v).length := by
  unfold bb_sv
  cases (bb_at ps i).2.testBit v
  · exact Nat.le_refl _
  · exact bb_tk_len _ _
theorem bb_sq_len (ps : List (Nat × Nat)) (i : Nat) : ∀ v, ps.length ≤ (bb_sq ps i v).length
  | 0 => Nat.le_refl _
  | v + 1 => Nat.le_trans (bb_sq_len ps i v) (bb_sv_len _ _ _)
theorem bb_c5_len (ps : List (Nat × Nat)) (i : Nat) : ∀ j, ps.length ≤ (bb_c5 ps i j).length
  | 0 => Nat.le_refl _
  | j + 1 => Nat.le_trans (bb_c5_len ps i j) (bb_tk_len _ _)
/-! early exits -/
theorem bb_lv_f {ps : List (Nat × Nat)} {m v : Nat} (h : bb_lv ps m v = false) : ∀ k, bb_lv ps m (v + k) = false
  | 0 => h
  | k + 1 => by
    show (bb_lv ps m (v + k) && _) = false
    rw [bb_lv_f h k]
    rfl
theorem bb_rl_t {z q : Nat} (h : bb_rl z q = true) : ∀ k, bb_rl z (q + k) = true
  | 0 => h
  | k + 1 => by
    show (bb_rl z (q + k) || _) = true
    rw [bb_rl_t h k]
    rfl
theorem bb_bl_len (ps : List (Nat × Nat)) : ∀ m, (bb_bl ps m).length ≤ m
  | 0 => Nat.le_refl _
  | m + 1 => by
    have h := bb_bl_len ps m
    rw [bb_bl_s]
    cases bb_lb ps m
    · exact Nat.le_succ_of_le h
    · rw [cond_true, List.length_append]
      exact Nat.succ_le_succ h
end
section
/-! ===== ints and bits: nx_and, nx_xor began as rows of kit/laws/BITS.to-paste ===== -/
theorem nx_and (a b : Nat) : nI a &&& nI b = nI (a &&& b) := by
  apply Int32.toBitVec_inj.1
  show BitVec.ofNat 32 a &&& BitVec.ofNat 32 b = BitVec.ofNat 32 (a &&& b)
  apply BitVec.eq_of_getLsbD_eq
  intro i hi
  simp [hi]
theorem nx_xor (a b : Nat) : nI a ^^^ nI b = nI (a ^^^ b) := by
  apply Int32.toBitVec_inj.1
  show BitVec.ofNat 32 a ^^^ BitVec.ofNat 32 b = BitVec.ofNat 32 (a ^^^ b)
  apply BitVec.eq_of_getLsbD_eq
  intro i hi
  simp [hi]
theorem bb_or (a b : Nat) : nI a ||| nI b = nI (a ||| b) := by
  apply Int32.toBitVec_inj.1
  show BitVec.ofNat 32 a ||| BitVec.ofNat 32 b = BitVec.ofNat 32 (a ||| b)
  apply BitVec.eq_of_getLsbD_eq
  intro i hi
  simp [hi]
theorem bb_sl : ∀ n, n < 32 → ((nI n &&& 31).toBitVec.smod 32).toNat = n := by decide +kernel
theorem bb_sh : ∀ k, k < 32 → (1 : Int32) <<< (nI k &&& 31) = nI (2 ^ k) := by decide +kernel
theorem bb_an : ∀ a, a < 16 → ∀ b, b < 16 → nI a &&& (nI b ^^^ (-1)) = nI (a &&& (15 ^^^ b)) := by decide +kernel
theorem bb_b8 : ∀ k, k < 16 → (nI k).toInt8.toInt32 = nI k := by decide +kernel
theorem bb_bit {f k : Nat} (hf : f < 65536) (hk : k < 32) : (nI f >>> (nI k &&& 31)) &&& 1 = nI (f.testBit k).toNat := by
  have h := Nat.div_le_self f (2 ^ k)
  have e1 : nI f >>> (nI k &&& 31) = nI (f / 2 ^ k) := pk_shrN (by omega) _ k (bb_sl k hk)
  have e2 : nI (f / 2 ^ k) &&& 1 = nI (f / 2 ^ k % 2) := pk_andN (by omega) 1 (by decide)
  rw [e1, e2, Nat.toNat_testBit]
theorem bb_br {x y : Int32} {A B : Prop} (f k : Nat) (hf : f < 65536) (hk : k < 32) (h0 : f.testBit k = false → A) (h1 : f.testBit k = true → B) (hx : x = nI f := by rfl) (hy : y = nI k := by rfl) : (((x >>> (y &&& 31)) &&& 1) = 0 → A) ∧ (¬ ((x >>> (y &&& 31)) &&& 1) = 0 → B) := by
  subst hx hy
  rw [bb_bit hf hk]
  cases h : f.testBit k
  · exact br_t rfl (h0 h)
  · exact br_f (by decide) (h1 h)
theorem bb_br1 {x y : Int32} {A B : Prop} (f k : Nat) (hf : f < 65536) (hk : k < 32) (h1 : f.testBit k = true → A) (h0 : f.testBit k = false → B) (hx : x = nI f := by rfl) (hy : y = nI k := by rfl) : (((x >>> (y &&& 31)) &&& 1) = 1 → A) ∧ (¬ ((x >>> (y &&& 31)) &&& 1) = 1 → B) := by
  subst hx hy
  rw [bb_bit hf hk]
  cases h : f.testBit k
  · exact br_f (by decide) (h0 h)
  · exact br_t rfl (h1 h)
theorem bb_ab {x y : Int32} {A B : Prop} (a b : Nat) (ha : a < 16) (hb : b < 16) (h0 : (a &&& (15 ^^^ b) == 0) = true → A) (h1 : (a &&& (15 ^^^ b) == 0) = false → B) (hx : x = nI a := by rfl) (hy : y = nI b := by rfl) : ((x &&& (y ^^^ (-1))) = 0 → A) ∧ (¬ (x &&& (y ^^^ (-1))) = 0 → B) := by
  subst hx hy
  rw [bb_an a ha b hb]
  have hl : a &&& (15 ^^^ b) < 16 := bb_alt ha
  generalize a &&& (15 ^^^ b) = c at h0 h1 hl
  exact pk_eq c 0 (fun z => h0 (beq_iff_eq.mpr z)) (fun z => h1 (beq_eq_false_iff_ne.mpr z))
theorem bb_tb {b : Bool} {A B : Prop} (h0 : b = false → A) (h1 : b = true → B) : (nI b.toNat = 0 → A) ∧ (¬ nI b.toNat = 0 → B) := by
  cases b
  · exact br_t rfl (h0 rfl)
  · exact br_f (by decide) (h1 rfl)
/-! ===== methods over ints alone ===== -/
theorem bb_times {post : Int32 → Prop} {f m : Nat} (hf : f < 65536) (hm : m < 16) (hp : post (nI (bb_tm f m 16))) : wpX_times post () (nI f) (nI m) :=
  pk_loop (fun n i r => wX_times_4 post (nI f) (nI m) n r (nI i)) (fun i r => r = nI (bb_tm f m i)) 16 0 0 (by omega) rfl
    (fun n r h => pk_le 16 16 (fun _ => by rw [h]; exact hp) (fun z => absurd z (by omega)))
    (fun n i r hi h hw => pk_le 16 i (fun z => absurd z (by omega)) (fun _ => bb_br f i hf (by omega)
      (fun z => nm_r (nI_1 i) (hw _ (by rw [h, bb_tm_s, z]; rfl)))
      (fun z => nm_r (e' := nI (bb_tm f m (i + 1))) (by rw [h, bb_or, bb_sh _ (Nat.lt_trans (bb_olt hi hm) (by omega)), nx_xor, bb_tm_s, z]; rfl) (nm_r (nI_1 i) (hw _ rfl)))))
theorem bb_headOf {post : Int32 → Prop} {f : Nat} (hf : f < 65536) (hp : post (nI (bb_hd f 16) + (-1))) : wpX_headOf post () (nI f) :=
  pk_loop (fun n i r => wX_headOf_4 post (nI f) n r (nI i)) (fun i r => r = nI (bb_hd f i) + (-1)) 16 0 (-1) (by omega) (by show (-1 : Int32) = nI 0 + (-1); decide)
    (fun n r h => pk_le 16 16 (fun _ => by rw [h]; exact hp) (fun z => absurd z (by omega)))
    (fun n i r hi h hw => pk_le 16 i (fun z => absurd z (by omega)) (fun _ => bb_br f i hf (by omega)
      (fun z => nm_r (nI_1 i) (hw _ (by rw [h, bb_hd_s, z]; rfl)))
      (fun z => nm_r (nI_1 i) (hw _ (by rw [bb_hd_s, z]; exact (pk_m1 i).symm)))))
theorem bb_valueAt {post : Int32 → Prop} {f p : Nat} (hf : f < 65536) (hp : p < 16) (h : post (nI (bb_va f p 16))) : wpX_valueAt post () (nI f) (nI p) :=
  pk_loop (fun n i r => wX_valueAt_4 post (nI f) (nI p) n r (nI i)) (fun i r => r = nI (bb_va f p i)) 16 0 0 (by omega) rfl
    (fun n r hr => pk_le 16 16 (fun _ => by rw [hr]; exact h) (fun z => absurd z (by omega)))
    (fun n i r hi hr hw => pk_le 16 i (fun z => absurd z (by omega)) (fun _ => bb_ab i p hi hp
      (fun z => nm_r (e' := nI (bb_va f p (i + 1))) (by rw [hr, bb_bit hf (by omega), nx_xor, bb_va_s, z]; rfl) (nm_r (nI_1 i) (hw _ rfl)))
      (fun z => nm_r (nI_1 i) (hw _ (by rw [hr, bb_va_s, z]; rfl)))))
theorem bb_isP {post : Int32 → Prop} {f : Nat} (hf : f < 65536) (h : post 1) : wpX_isPolynomial post () (nI f) :=
  pk_lt f 0 (fun z => absurd z (by omega)) (fun _ => pk_lt 65535 f (fun z => absurd z (by omega)) (fun _ => h))
section
variable {pr kn sz bc bs zs : Int32} {a1 a2 a3 a4 : Nat → Int32}
theorem bb_product {post : Int32 → Prop} {f g : Nat} (hf : f < 65536) (hg : g < 65536) (hp : post (nI (bb_pr f g 16))) : wpX_product post (pr, kn, sz, bc, bs, zs, a1, a2, a3, a4) (nI f) (nI g) := by
  unfold wpX_product
  dsimp only
  refine bb_isP hf (br_f (by decide) (bb_isP hg (br_f (by decide) ?_)))
  exact pk_loop (fun n i r => wX_product_21 post (nI f) (nI g) pr kn sz bc bs zs a1 a2 a3 a4 n r (nI i)) (fun i r => r = nI (bb_pr f g i)) 16 0 0 (by omega) rfl
    (fun n r h => pk_le 16 16 (fun _ => by rw [h]; exact hp) (fun z => absurd z (by omega)))
    (fun n i r hi h hw => pk_le 16 i (fun z => absurd z (by omega)) (fun _ => bb_br g i hg (by omega)
      (fun z => nm_r (nI_1 i) (hw _ (by rw [h, bb_pr_s, z]; rfl)))
      (fun z => bb_times hf hi (nm_r (e' := nI (bb_pr f g (i + 1))) (by rw [h, nx_xor, bb_pr_s, z]; rfl) (nm_r (nI_1 i) (hw _ rfl))))))
theorem bb_value {post : Int32 → Prop} {f p : Nat} (hf : f < 65536) (hp : p < 16) (h : post (nI (bb_va f p 16))) : wpX_value post (pr, kn, sz, bc, bs, zs, a1, a2, a3, a4) (nI f) (nI p) := by
  unfold wpX_value
  dsimp only
  exact bb_isP hf (br_f (by decide) (pk_lt p 0 (fun z => absurd z (by omega)) (fun _ => pk_le 16 p (fun z => absurd z (by omega)) (fun _ => bb_valueAt hf hp h))))
end
end
section
theorem bb_ble_t {a b : Nat} (h : a ≤ b) : Nat.ble a b = true := Nat.ble_eq_true_of_le h
theorem bb_ble_f {a b : Nat} (h : b < a) : Nat.ble a b = false := by
  cases e : Nat.ble a b with
  | false => rfl
  | true => exact absurd (Nat.le_of_ble_eq_true e) (by omega)
theorem bb_blt_t {a b : Nat} (h : a < b) : Nat.blt a b = true := bb_ble_t h
theorem bb_blt_f {a b : Nat} (h : b ≤ a) : Nat.blt a b = false := bb_ble_f (Nat.lt_succ_of_le h)
/-! ===== the polynomials by which one reduces: the state's two arrays hold the list ps ===== -/
def bb_M (ps : List (Nat × Nat)) (a2 a3 : Nat → Int32) : Prop := ps.length ≤ 32 ∧ ∀ i, i < ps.length → a2 i = nI (bb_at ps i).1 ∧ a3 i = nI (bb_at ps i).2 ∧ (bb_at ps i).1 < 65536 ∧ (bb_at ps i).2 < 16
theorem bb_drop {ps : List (Nat × Nat)} {i : Nat} (h : i < ps.length) : ps.drop i = bb_at ps i :: ps.drop (i + 1) := by
  rw [List.drop_eq_getElem_cons h]
  simp [bb_at, h]
theorem bb_dv_t {q : Nat × Nat} {ps : List (Nat × Nat)} {m : Nat} (h : (q.2 &&& (15 ^^^ m) == 0) = true) : bb_dv (q :: ps) m = some q := by
  simp only [bb_dv, List.find?_cons, h]
theorem bb_dv_f {q : Nat × Nat} {ps : List (Nat × Nat)} {m : Nat} (h : (q.2 &&& (15 ^^^ m) == 0) = false) : bb_dv (q :: ps) m = bb_dv ps m := by
  simp only [bb_dv, List.find?_cons, h]
theorem bb_at_l {ps : List (Nat × Nat)} {q : Nat × Nat} {i : Nat} (h : i < ps.length) : bb_at (ps ++ [q]) i = bb_at ps i := by
  unfold bb_at
  rw [List.getD_eq_getElem?_getD, List.getD_eq_getElem?_getD, List.getElem?_append_left h]
theorem bb_at_n {ps : List (Nat × Nat)} {q : Nat × Nat} : bb_at (ps ++ [q]) ps.length = q := by
  simp [bb_at]
theorem bb_T_lt {ps : List (Nat × Nat)} {m : Nat} (hm : m < 16) : bb_T ps m < 65536 := by
  unfold bb_T
  cases bb_dv ps m with
  | none => show 0 < 65536; omega
  | some q => exact bb_tm_lt (bb_alt hm) 16 (by omega)
theorem bb_rd_lt {ps : List (Nat × Nat)} : ∀ k r, k ≤ 16 → r < 65536 → bb_rd ps k r < 65536
  | 0, _, _, h => h
  | k + 1, _, hk, h => bb_rd_lt k _ (by omega) (bb_cx_lt h (bb_T_lt (by omega)))
section
variable {pr kn bc bs zs : Int32} {a1 a2 a3 a4 : Nat → Int32} {ps : List (Nat × Nat)}
theorem bb_divisor {post : Int32 → Prop} {m : Nat} (hM : bb_M ps a2 a3) (hm : m < 16) (h0 : bb_dv ps m = none → post (-1)) (h1 : ∀ i, i < ps.length → bb_dv ps m = some (bb_at ps i) → post (nI i)) : wpX_divisor post (pr, kn, nI ps.length, bc, bs, zs, a1, a2, a3, a4) (nI m) := by
  have hl : ps.length ≤ 32 := hM.1
  exact pk_loop (σ := Unit) (fun n i _ => wX_divisor_2 post (nI m) pr kn (nI ps.length) bc bs zs a1 a2 a3 a4 n (nI i)) (fun i _ => bb_dv ps m = bb_dv (ps.drop i) m) ps.length 0 () (by omega) rfl
    (fun n _ h => pk_le ps.length ps.length (fun _ => h0 (by rw [h, List.drop_length]; rfl)) (fun z => absurd z (by omega)))
    (fun n i _ hi h hw => pk_le ps.length i (fun z => absurd z (by omega)) (fun _ => ⟨pk_in i 32 (by omega), bb_ab (bb_at ps i).2 m (hM.2 i hi).2.2.2 hm
      (fun z => h1 i hi (by rw [h, bb_drop hi, bb_dv_t z]))
      (fun z => nm_r (nI_1 i) (hw () (by rw [h, bb_drop hi, bb_dv_f z])))
      (by rw [nI_clamp (by omega)]; exact (hM.2 i hi).2.1)⟩))
theorem bb_reduce {post : Int32 → Prop} {f : Nat} (hM : bb_M ps a2 a3) (hf : f < 65536) (hp : post (nI (bb_rd ps 16 f))) : wpX_reduce post (pr, kn, nI ps.length, bc, bs, zs, a1, a2, a3, a4) (nI f) := by
  have hl : ps.length ≤ 32 := hM.1
  have e15 : (15 : Int32) = nI 16 + (-1) := by decide
  have key := pk_loopD (fun n k r => wX_reduce_5 post pr kn (nI ps.length) bc bs zs a1 a2 a3 a4 n r (nI k + (-1))) (fun k r => k ≤ 16 ∧ ∃ x, r = nI x ∧ x < 65536 ∧ bb_rd ps k x = bb_rd ps 16 f) ?hx ?hs 16 (nI f) ⟨Nat.le_refl _, f, rfl, hf, rfl⟩
  · refine Exists.intro 17 ?_
    rw [e15]
    exact key
  case hx =>
    intro n r h
    obtain ⟨_, x, hr, hx, he⟩ := h
    have he' : x = bb_rd ps 16 f := he
    refine br_t (by decide) ?_
    rw [hr, he']
    exact hp
  case hs =>
    intro n k r h hw
    obtain ⟨hk, x, hr, hx, he⟩ := h
    show wX_reduce_5 post pr kn (nI ps.length) bc bs zs a1 a2 a3 a4 (n + 1) r (nI (k + 1) + (-1))
    rw [pk_m1, hr]
    refine br_f (nI_pos (by omega)) (bb_br x k hx (by omega) (fun z => ?_) (fun z => ?_))
    · exact br_t (by decide) (nm_e (hw _ ⟨by omega, x, rfl, hx, by rw [← he, bb_rd_s, z]; rfl⟩))
    · refine bb_divisor hM (by omega) (fun hd => ?_) (fun i hi hd => ?_)
      · exact br_t (by decide) (nm_e (hw _ ⟨by omega, x, rfl, hx, by rw [← he, bb_rd_s, z, show bb_T ps k = 0 by unfold bb_T; rw [hd], bb_cx_0]⟩))
      · obtain ⟨m1, m2, m3, m4⟩ := hM.2 i hi
        refine br_f (nI_pos (by omega)) ⟨pk_in i 32 (by omega), pk_in i 32 (by omega), ?_⟩
        rw [nI_clamp (by omega), m1, m2, bb_an k (by omega) _ m4]
        have eT : bb_T ps k = bb_tm (bb_at ps i).1 (k &&& (15 ^^^ (bb_at ps i).2)) 16 := by unfold bb_T; rw [hd]
        refine bb_times m3 (bb_alt (by omega)) (nm_r (nx_xor _ _) (nm_e (hw _ ⟨by omega, _, rfl, bb_xlt hx (bb_tm_lt (bb_alt (by omega)) 16 (by omega)), ?_⟩)))
        rw [← he, bb_rd_s, z, eT]
        rfl
theorem bb_M_add {r h : Nat} (hM : bb_M ps a2 a3) (hl : ps.length < 32) (hr : r < 65536) (hh : h < 16) : bb_M (ps ++ [(r, h)]) (upd a2 ps.length (nI r)) (upd a3 ps.length (nI h)) := by
  have el : (ps ++ [(r, h)]).length = ps.length + 1 := by rw [List.length_append]; rfl
  refine ⟨by omega, fun i hi => ?_⟩
  rw [el] at hi
  rcases Nat.lt_or_ge i ps.length with z | z
  · rw [bb_at_l z, pk_un (by omega), pk_un (by omega)]
    exact hM.2 i z
  · have e : i = ps.length := by omega
    rw [e, bb_at_n, pk_us, pk_us]
    exact ⟨rfl, rfl, hr, hh⟩
theorem bb_takeIn {post : Int32 → St2 → Prop} {f : Nat} (hM : bb_M ps a2 a3) (hf : f < 65536) (hp : ∀ r b2 b3, bb_M (bb_ti ps f) b2 b3 → post r (pr, kn, nI (bb_ti ps f).length, bc, bs, zs, a1, b2, b3, a4)) : wpX_takeIn post (pr, kn, nI ps.length, bc, bs, zs, a1, a2, a3, a4) (nI f) := by
  have hl : ps.length ≤ 32 := hM.1
  have hr : bb_rd ps 16 f < 65536 := bb_rd_lt 16 f (Nat.le_refl _) hf
  unfold wpX_takeIn
  dsimp only
  refine bb_reduce hM hf ?_
  unfold bb_ti at hp
  generalize bb_rd ps 16 f = r at hp hr
  refine pk_eq r 0 (fun z => ?_) (fun z => pk_lt ps.length 32 (fun g => ?_) (fun g => ?_))
  · have e : bb_tk ps r = ps := by unfold bb_tk; rw [z]; rfl
    rw [e] at hp
    exact hp _ _ _ hM
  · have e : bb_tk ps r = ps ++ [(r, bb_hd r 16 - 1)] := by
      unfold bb_tk
      rw [beq_eq_false_iff_ne.mpr z, cond_false, bb_blt_t g, cond_true]
    rw [e] at hp
    have h1 := bb_hd_pos hr z
    have h2 := bb_hd_le (f := r) 16
    have eh : (nI (bb_hd r 16) + (-1)).toInt8.toInt32 = nI (bb_hd r 16 - 1) := by
      rw [show bb_hd r 16 = bb_hd r 16 - 1 + 1 by omega, pk_m1, bb_b8 _ (by omega)]
      rfl
    refine ⟨pk_in ps.length 32 g, nm_e (bb_headOf hr ⟨pk_in ps.length 32 g, nm_e (nm_r (nI_1 _) ?_)⟩)⟩
    rw [eh, nI_clamp (by omega)]
    have := hp 1 _ _ (bb_M_add hM g hr (by omega))
    rw [List.length_append] at this
    exact this
  · have e : bb_tk ps r = ps := by
      unfold bb_tk
      rw [beq_eq_false_iff_ne.mpr z, cond_false, bb_blt_f g, cond_false]
    rw [e] at hp
    exact hp _ _ _ hM
end
end
section
/-! ===== completing ===== -/
section
variable {pr kn bc bs zs : Int32} {a1 a2 a3 a4 : Nat → Int32} {ps : List (Nat × Nat)}
theorem bb_takeSquares {post : St2 → Prop} {i : Nat} (hM : bb_M ps a2 a3) (hi : i < ps.length) (hp : ∀ b2 b3, bb_M (bb_sq ps i 4) b2 b3 → post (pr, kn, nI (bb_sq ps i 4).length, bc, bs, zs, a1, b2, b3, a4)) : wpX_takeSquares post (pr, kn, nI ps.length, bc, bs, zs, a1, a2, a3, a4) (nI i) := by
  refine pk_loop (σ := Int32 × (Nat → Int32) × (Nat → Int32)) (fun n v s => wX_takeSquares_2 post (nI i) n (nI v) pr kn s.1 bc bs zs a1 s.2.1 s.2.2 a4) (fun v s => s.1 = nI (bb_sq ps i v).length ∧ bb_M (bb_sq ps i v) s.2.1 s.2.2) 4 0 (nI ps.length, a2, a3) (by omega) ⟨rfl, hM⟩ ?_ ?_
  · intro n s h
    obtain ⟨sz, b2, b3⟩ := s
    obtain ⟨e0, hm0⟩ := h
    have e : sz = nI (bb_sq ps i 4).length := e0
    subst e
    exact pk_le 4 4 (fun _ => hp b2 b3 hm0) (fun z => absurd z (by omega))
  · intro n v s hv h hw
    obtain ⟨sz, b2, b3⟩ := s
    obtain ⟨e0, hm0⟩ := h
    have e : sz = nI (bb_sq ps i v).length := e0
    have hm : bb_M (bb_sq ps i v) b2 b3 := hm0
    have hlen := bb_sq_len ps i v
    rw [bb_sq_s] at hw
    clear hp e0 hm0
    generalize bb_sq ps i v = qs at e hm hlen hw
    subst e
    have hl : qs.length ≤ 32 := hm.1
    have hi' : i < qs.length := by omega
    obtain ⟨m1, m2, m3, m4⟩ := hm.2 i hi'
    have ec : (nI i).toNatClampNeg = i := nI_clamp (by omega)
    refine pk_le 4 v (fun z => absurd z (by omega)) (fun _ => ⟨pk_in i 32 (by omega), bb_br (bb_at qs i).2 v (by omega) (by omega) (fun z => ?_) (fun z => ⟨pk_in i 32 (by omega), ?_⟩) (by show b3 (nI i).toNatClampNeg = _; rw [ec]; exact m2)⟩)
    · have e0 : bb_sv qs i v = qs := by unfold bb_sv; rw [z]; rfl
      rw [e0] at hw
      exact nm_r (nI_1 v) (hw (_, b2, b3) ⟨rfl, hm⟩)
    · have e1 : bb_sv qs i v = bb_ti qs (bb_tm (bb_at qs i).1 (2 ^ v) 16 ^^^ (bb_at qs i).1) := by unfold bb_sv; rw [z]; rfl
      rw [e1] at hw
      have h2 : 2 ^ v < 16 := Nat.pow_lt_pow_right (a := 2) (n := 4) (by omega) hv
      dsimp only
      rw [ec, m1, bb_sh v (by omega)]
      refine bb_times m3 h2 ⟨pk_in i 32 (by omega), ?_⟩
      rw [nx_xor]
      exact bb_takeIn hm (bb_xlt (bb_tm_lt h2 16 (by omega)) m3) (fun r c2 c3 hc => nm_r (nI_1 v) (hw (_, c2, c3) ⟨rfl, hc⟩))
theorem bb_takeDiff {post : St2 → Prop} {i j : Nat} (hM : bb_M ps a2 a3) (hi : i < ps.length) (hj : j < ps.length) (hp : ∀ b2 b3, bb_M (bb_df ps i j) b2 b3 → post (pr, kn, nI (bb_df ps i j).length, bc, bs, zs, a1, b2, b3, a4)) : wpX_takeDifference post (pr, kn, nI ps.length, bc, bs, zs, a1, a2, a3, a4) (nI i) (nI j) := by
  have hl : ps.length ≤ 32 := hM.1
  obtain ⟨m1, m2, m3, m4⟩ := hM.2 i hi
  obtain ⟨k1, k2, k3, k4⟩ := hM.2 j hj
  have ei : (nI i).toNatClampNeg = i := nI_clamp (by omega)
  have ej : (nI j).toNatClampNeg = j := nI_clamp (by omega)
  have hi3 : vp_in (nI i) 32 := pk_in i 32 (by omega)
  have hj3 : vp_in (nI j) 32 := pk_in j 32 (by omega)
  unfold wpX_takeDifference
  dsimp only
  rw [ei, ej, m1, m2, k1, k2]
  refine ⟨hi3, hj3, nm_r (bb_or _ _) ⟨hi3, hi3, ?_⟩⟩
  rw [bb_an _ (bb_olt m4 k4) _ m4]
  refine bb_times m3 (bb_alt (bb_olt m4 k4)) ⟨hj3, hj3, ?_⟩
  rw [bb_an _ (bb_olt m4 k4) _ k4]
  refine bb_times k3 (bb_alt (bb_olt m4 k4)) ?_
  rw [nx_xor]
  exact bb_takeIn hM (bb_xlt (bb_tm_lt (bb_alt (bb_olt m4 k4)) 16 (by omega)) (bb_tm_lt (bb_alt (bb_olt m4 k4)) 16 (by omega))) (fun r b2 b3 h => hp b2 b3 h)
theorem bb_c55 {post : St2 → Prop} {J : Int32 → Int32 → Int32 → Int32 → Int32 → Int32 → Int32 → (Nat → Int32) → (Nat → Int32) → (Nat → Int32) → (Nat → Int32) → Prop} {i : Nat} (hM : bb_M ps a2 a3) (hi : i < ps.length) (hp : ∀ b2 b3, bb_M (bb_c5 ps i i) b2 b3 → J (nI (i + 1)) pr kn (nI (bb_c5 ps i i).length) bc bs zs a1 b2 b3 a4) : ∃ n, wX_complete_55 post J (nI i) n 0 pr kn (nI ps.length) bc bs zs a1 a2 a3 a4 := by
  have hi32 : ps.length ≤ 32 := hM.1
  refine pk_loop (σ := Int32 × (Nat → Int32) × (Nat → Int32)) (fun n j s => wX_complete_55 post J (nI i) n (nI j) pr kn s.1 bc bs zs a1 s.2.1 s.2.2 a4) (fun j s => s.1 = nI (bb_c5 ps i j).length ∧ bb_M (bb_c5 ps i j) s.2.1 s.2.2) i 0 (nI ps.length, a2, a3) (by omega) ⟨rfl, hM⟩ ?_ ?_
  · intro n s h
    obtain ⟨sz, b2, b3⟩ := s
    obtain ⟨e0, hm0⟩ := h
    have e : sz = nI (bb_c5 ps i i).length := e0
    subst e
    exact pk_le i i (fun _ => nm_r (nI_1 i) (hp b2 b3 hm0)) (fun z => absurd z (by omega))
  · intro n j s hj h hw
    obtain ⟨sz, b2, b3⟩ := s
    obtain ⟨e0, hm0⟩ := h
    have e : sz = nI (bb_c5 ps i j).length := e0
    have hm : bb_M (bb_c5 ps i j) b2 b3 := hm0
    have hlen := bb_c5_len ps i j
    rw [bb_c5_s] at hw
    clear hp e0 hm0
    generalize bb_c5 ps i j = qs at e hm hlen hw
    subst e
    exact pk_le i j (fun z => absurd z (by omega)) (fun _ => bb_takeDiff hm (by omega) (by omega) (fun c2 c3 hc => nm_r (nI_1 j) (hw (_, c2, c3) ⟨rfl, hc⟩)))
theorem bb_c40 {post : St2 → Prop} : ∀ (n i : Nat) (ps : List (Nat × Nat)) (a2 a3 : Nat → Int32), i + n = 33 → bb_M ps a2 a3 → (∀ b2 b3, bb_M (bb_c4 n i ps) b2 b3 → post (pr, kn, nI (bb_c4 n i ps).length, bc, bs, zs, a1, b2, b3, a4)) → wX_complete_40 post (n + 1) (nI i) pr kn (nI ps.length) bc bs zs a1 a2 a3 a4 := by
  intro n
  induction n with
  | zero =>
    intro i ps a2 a3 hn hM hp
    have hl : ps.length ≤ 32 := hM.1
    exact pk_le ps.length i (fun _ => hp a2 a3 hM) (fun z => absurd z (by omega))
  | succ n ih =>
    intro i ps a2 a3 hn hM hp
    have hl : ps.length ≤ 32 := hM.1
    rw [bb_c4_s] at hp
    refine pk_le ps.length i (fun z => ?_) (fun z => ?_)
    · rw [bb_ble_t z, cond_true] at hp
      exact hp a2 a3 hM
    · rw [bb_ble_f z, cond_false] at hp
      exact bb_takeSquares hM z (fun b2 b3 hb => bb_c55 hb (Nat.lt_of_lt_of_le z (bb_sq_len ps i 4)) (fun c2 c3 hc => ih (i + 1) _ c2 c3 (by omega) hc hp))
def bb_c7 (s : Nat) : Nat → List (Nat × Nat)
  | 0 => []
  | _ + 1 => bb_ti [] s
theorem bb_M_nil : bb_M [] a2 a3 := ⟨Nat.zero_le _, fun i hi => absurd hi (Nat.not_lt_zero i)⟩
theorem bb_complete {post : St2 → Prop} {sz : Int32} {s : Nat} (hs : s < 65536) (h1 : a1 0 = nI s) (hp : ∀ b2 b3, bb_M (bb_cp s) b2 b3 → post (pr, kn, nI (bb_cp s).length, bc, bs, zs, a1, b2, b3, a4)) : wpX_complete post (pr, kn, sz, bc, bs, zs, a1, a2, a3, a4) 1 := by
  refine pk_loop (σ := Int32 × (Nat → Int32) × (Nat → Int32)) (fun n i t => wX_complete_7 post 1 n (nI i) pr kn t.1 bc bs zs a1 t.2.1 t.2.2 a4) (fun i t => t.1 = nI (bb_c7 s i).length ∧ bb_M (bb_c7 s i) t.2.1 t.2.2) 6 0 (0, a2, a3) (by omega) ⟨rfl, bb_M_nil⟩ ?_ ?_
  · intro n t h
    obtain ⟨sz, b2, b3⟩ := t
    obtain ⟨e0, hm0⟩ := h
    have e : sz = nI (bb_ti [] s).length := e0
    have hm : bb_M (bb_ti [] s) b2 b3 := hm0
    subst e
    exact pk_le 6 6 (fun _ => Exists.intro 34 (bb_c40 33 0 _ b2 b3 rfl hm hp)) (fun z => absurd z (by omega))
  · intro n i t hi h hw
    obtain ⟨sz, b2, b3⟩ := t
    obtain ⟨e0, hm0⟩ := h
    cases i with
    | zero =>
      have e : sz = nI ([] : List (Nat × Nat)).length := e0
      have hm : bb_M [] b2 b3 := hm0
      subst e
      refine pk_le 6 0 (fun z => absurd z (by omega)) (fun _ => bb_br 1 0 (by omega) (by omega) (fun z => absurd z (by decide)) (fun _ => ⟨pk_in 0 6 (by omega), ?_⟩))
      dsimp only
      rw [nI_clamp (by omega), h1]
      exact bb_takeIn hm hs (fun r c2 c3 hc => nm_r (nI_1 0) (hw (_, c2, c3) ⟨rfl, hc⟩))
    | succ i =>
      have e : sz = nI (bb_ti [] s).length := e0
      have hm : bb_M (bb_ti [] s) b2 b3 := hm0
      subst e
      have hb : (1 : Nat).testBit (i + 1) = false := (by decide : ∀ i, i < 5 → (1 : Nat).testBit (i + 1) = false) i (by omega)
      exact pk_le 6 (i + 1) (fun z => absurd z (by omega)) (fun _ => bb_br 1 (i + 1) (by omega) (by omega) (fun _ => nm_r (nI_1 (i + 1)) (hw (_, b2, b3) ⟨rfl, hm⟩)) (fun z => absurd z (by rw [hb]; decide)))
end
end
section
/-! ===== learn, and the answers ===== -/
def bb_B (bl : List Nat) (a4 : Nat → Int32) : Prop := bl.length ≤ 16 ∧ ∀ i, i < bl.length → a4 i = nI (bl.getD i 0) ∧ bl.getD i 0 < 65536
theorem bb_B_nil {a4 : Nat → Int32} : bb_B [] a4 := ⟨Nat.zero_le _, fun i hi => absurd hi (Nat.not_lt_zero i)⟩
theorem bb_B_add {bl : List Nat} {a4 : Nat → Int32} {r : Nat} (hB : bb_B bl a4) (hl : bl.length < 16) (hr : r < 65536) : bb_B (bl ++ [r]) (upd a4 bl.length (nI r)) := by
  have el : (bl ++ [r]).length = bl.length + 1 := by rw [List.length_append]; rfl
  refine ⟨by omega, fun i hi => ?_⟩
  rw [el] at hi
  rcases Nat.lt_or_ge i bl.length with z | z
  · rw [List.getD_eq_getElem?_getD, List.getElem?_append_left z, ← List.getD_eq_getElem?_getD, pk_un (by omega)]
    exact hB.2 i z
  · have e : i = bl.length := by omega
    have e2 : (bl ++ [r]).getD bl.length 0 = r := by simp
    rw [e, e2, pk_us]
    exact ⟨rfl, hr⟩
theorem bb_dropN {bl : List Nat} {i : Nat} (h : i < bl.length) : bl.drop i = bl.getD i 0 :: bl.drop (i + 1) := by
  rw [List.drop_eq_getElem_cons h]
  simp [h]
theorem bb_vn_c (b : Nat) (l : List Nat) (p : Nat) : bb_vn (b :: l) p = (bb_va b p 16 == 0 && bb_vn l p) := rfl
theorem bb_sn_lt {z : Nat} : ∀ k, bb_sn z k < 65536
  | 0 => by show 0 < 65536; omega
  | k + 1 => by
    have h := bb_sn_lt (z := z) k
    rw [bb_sn_s]
    cases z.testBit k
    · exact h
    · exact Nat.or_lt_two_pow (n := 16) h (bb_plt (Nat.lt_of_le_of_lt Nat.and_le_right (by omega)))
section
variable {pr kn sz bc bs zs : Int32} {a1 a2 a3 a4 : Nat → Int32} {ps : List (Nat × Nat)} {bl : List Nat}
theorem bb_leastBound {post : Int32 → Prop} {m : Nat} (hM : bb_M ps a2 a3) (hm : m < 16) (hp : post (nI (bb_lb ps m).toNat)) : wpX_leastBound post (pr, kn, nI ps.length, bc, bs, zs, a1, a2, a3, a4) (nI m) := by
  have hl : ps.length ≤ 32 := hM.1
  unfold wpX_leastBound
  dsimp only
  refine bb_divisor hM hm (fun hd => br_f (by decide) ?_) (fun i hi hd => br_t (nI_pos' (by omega)) ?_)
  · have e : bb_lb ps m = false := by unfold bb_lb; rw [hd]; rfl
    rw [e] at hp
    exact hp
  · have e : bb_lb ps m = bb_lv ps m 4 := by unfold bb_lb; rw [hd]; rfl
    rw [e] at hp
    refine pk_loop (σ := Unit) (fun n v _ => wX_leastBound_12 post (nI m) pr kn (nI ps.length) bc bs zs a1 a2 a3 a4 n (nI v)) (fun v _ => bb_lv ps m v = true) 4 0 () (by omega) rfl ?_ ?_
    · intro n _ h
      have h : bb_lv ps m 4 = true := h
      rw [h] at hp
      exact pk_le 4 4 (fun _ => hp) (fun z => absurd z (by omega))
    · intro n v _ hv h hw
      have h : bb_lv ps m v = true := h
      have h2 : 2 ^ v < 16 := Nat.pow_lt_pow_right (a := 2) (n := 4) (by omega) hv
      have hs := bb_lv_s ps m v
      have hk : m &&& (15 ^^^ 2 ^ v) < 16 := bb_alt hm
      have ex : nI m &&& (((1 : Int32) <<< (nI v &&& 31)) ^^^ (-1)) = nI (m &&& (15 ^^^ 2 ^ v)) := by rw [bb_sh v (by omega), bb_an m hm _ h2]
      rw [h, Bool.true_and] at hs
      generalize m &&& (15 ^^^ 2 ^ v) = l at hs hk ex
      refine pk_le 4 v (fun z => absurd z (by omega)) (fun _ => nm_r ex (pk_eq l m (fun z => nm_r (nI_1 v) (hw () ?_)) (fun z => bb_divisor hM hk (fun hd => br_t (by decide) (nm_r (nI_1 v) (hw () ?_))) (fun j hj hd => br_f (nI_pos (by omega)) ?_))))
      · show bb_lv ps m (v + 1) = true
        rw [hs, beq_iff_eq.mpr z]
        rfl
      · show bb_lv ps m (v + 1) = true
        rw [hs, hd]
        exact Bool.or_true _
      · have hf : bb_lv ps m (v + 1) = false := by
          rw [hs, hd, beq_eq_false_iff_ne.mpr z]
          rfl
        have hf4 := bb_lv_f hf (4 - (v + 1))
        rw [show v + 1 + (4 - (v + 1)) = 4 by omega] at hf4
        rw [hf4] at hp
        exact hp
theorem bb_vanishes {post : Int32 → Prop} {p : Nat} (hB : bb_B bl a4) (hp : p < 16) (h : post (nI (bb_vn bl p).toNat)) : wpX_vanishes post (pr, kn, sz, nI bl.length, bs, zs, a1, a2, a3, a4) (nI p) := by
  have hl : bl.length ≤ 16 := hB.1
  refine pk_loop (σ := Unit) (fun n i _ => wX_vanishes_2 post (nI p) pr kn sz (nI bl.length) bs zs a1 a2 a3 a4 n (nI i)) (fun i _ => bb_vn bl p = bb_vn (bl.drop i) p) bl.length 0 () (by omega) rfl ?_ ?_
  · intro n _ e
    have e : bb_vn bl p = bb_vn (bl.drop bl.length) p := e
    rw [e, List.drop_length] at h
    exact pk_le bl.length bl.length (fun _ => h) (fun z => absurd z (by omega))
  · intro n i _ hi e hw
    have e : bb_vn bl p = bb_vn (bl.drop i) p := e
    rw [bb_dropN hi, bb_vn_c] at e
    obtain ⟨k1, k2⟩ := hB.2 i hi
    refine pk_le bl.length i (fun z => absurd z (by omega)) (fun _ => ⟨pk_in i 16 (by omega), ?_⟩)
    rw [nI_clamp (by omega), k1]
    have hv := bb_va_le (f := bl.getD i 0) (p := p) 16
    refine bb_valueAt k2 hp (pk_eq (bb_va (bl.getD i 0) p 16) 0 (fun z => nm_r (nI_1 i) (hw () ?_)) (fun z => ?_))
    · show bb_vn bl p = bb_vn (bl.drop (i + 1)) p
      rw [e, beq_iff_eq.mpr z, Bool.true_and]
    · rw [e, beq_eq_false_iff_ne.mpr z] at h
      exact h
theorem bb_l114 {post : St2 → Prop} (hB : bb_B bl a4) (hp : post (pr, kn, sz, nI bl.length, bs, nI (bb_zs bl 16), a1, a2, a3, a4)) : ∃ n, wX_learn_114 post pr kn sz (nI bl.length) bs a1 a2 a3 a4 n 0 0 :=
  pk_loop (fun n i z => wX_learn_114 post pr kn sz (nI bl.length) bs a1 a2 a3 a4 n (nI i) z) (fun i z => z = nI (bb_zs bl i)) 16 0 0 (by omega) rfl
    (fun n z h => pk_le 16 16 (fun _ => by rw [h]; exact hp) (fun z => absurd z (by omega)))
    (fun n i z hi h hw => pk_le 16 i (fun z => absurd z (by omega)) (fun _ => bb_vanishes hB hi (bb_tb
      (fun g => nm_r (e' := nI (bb_zs bl (i + 1))) (by rw [h, ← nI_0, bb_or, bb_zs_s, g]; rfl) (nm_r (nI_1 i) (hw _ rfl)))
      (fun g => nm_r (e' := nI (bb_zs bl (i + 1))) (by rw [h, bb_sh i (by omega), bb_or, bb_zs_s, g]; rfl) (nm_r (nI_1 i) (hw _ rfl))))))
theorem bb_l33 {post : St2 → Prop} (hM : bb_M ps a2 a3) (hp : ∀ b4, bb_B (bb_bl ps 16) b4 → post (pr, kn, nI ps.length, nI (bb_bl ps 16).length, nI (bb_bd ps 16), nI (bb_zs (bb_bl ps 16) 16), a1, a2, a3, b4)) : ∃ n, wX_learn_33 post pr kn (nI ps.length) zs n 0 0 0 a1 a2 a3 a4 := by
  have hl : ps.length ≤ 32 := hM.1
  refine pk_loop (σ := Int32 × Int32 × (Nat → Int32)) (fun n m s => wX_learn_33 post pr kn (nI ps.length) zs n (nI m) s.1 s.2.1 a1 a2 a3 s.2.2) (fun m s => s.1 = nI (bb_bl ps m).length ∧ s.2.1 = nI (bb_bd ps m) ∧ bb_B (bb_bl ps m) s.2.2) 16 0 (0, 0, a4) (by omega) ⟨rfl, rfl, bb_B_nil⟩ ?_ ?_
  · intro n s h
    obtain ⟨c, d, b4⟩ := s
    obtain ⟨e10, e20, hb0⟩ := h
    have e1 : c = nI (bb_bl ps 16).length := e10
    have e2 : d = nI (bb_bd ps 16) := e20
    subst e1 e2
    exact pk_le 16 16 (fun _ => bb_l114 hb0 (hp b4 hb0)) (fun z => absurd z (by omega))
  · intro n m s hm h hw
    obtain ⟨c, d, b4⟩ := s
    obtain ⟨e10, e20, hb0⟩ := h
    have e1 : c = nI (bb_bl ps m).length := e10
    have e2 : d = nI (bb_bd ps m) := e20
    have hb : bb_B (bb_bl ps m) b4 := hb0
    have hlb := bb_bl_len ps m
    subst e1 e2
    have key : ∀ w, bb_bd ps (m + 1) = bb_bd ps m ||| w → wX_learn_59 post (wX_learn_33 post pr kn (nI ps.length) zs n) (nI m) (nI w) (nI (bb_bd ps m)) pr kn (nI ps.length) (nI (bb_bl ps m).length) (nI (bb_bd ps m)) zs a1 a2 a3 b4 := by
      intro w ew
      refine nm_r (bb_or _ _) ?_
      rw [← ew]
      refine bb_leastBound hM hm (bb_tb (fun g => ?_) (fun g => ?_))
      · have e : bb_bl ps (m + 1) = bb_bl ps m := by rw [bb_bl_s, g]; rfl
        rw [e] at hw
        exact nm_r (nI_1 m) (hw (_, _, b4) ⟨rfl, rfl, hb⟩)
      · have e : bb_bl ps (m + 1) = bb_bl ps m ++ [2 ^ m ^^^ bb_rd ps 16 (2 ^ m)] := by rw [bb_bl_s, g]; rfl
        rw [e, List.length_append] at hw
        rw [bb_sh m (by omega)]
        refine bb_reduce hM (bb_plt hm) ⟨pk_in (bb_bl ps m).length 16 (by omega), nm_e (nm_r (nI_1 _) (nm_r (nI_1 m) (hw (_, _, _) ⟨rfl, rfl, ?_⟩)))⟩
        dsimp only
        rw [nI_clamp (by omega), nx_xor]
        exact bb_B_add hb (by omega) (bb_xlt (bb_plt hm) (bb_rd_lt 16 _ (Nat.le_refl _) (bb_plt hm)))
    refine pk_le 16 m (fun z => absurd z (by omega)) (fun _ => bb_divisor hM hm (fun hd => br_t (by decide) (key 0 ?_)) (fun j hj hd => br_f (nI_pos (by omega)) ?_))
    · rw [bb_bd_s, hd]
      rfl
    · dsimp only
      rw [bb_sh m (by omega)]
      refine key (2 ^ m) ?_
      rw [bb_bd_s, hd]
      rfl
theorem bb_learn {post : St2 → Prop} {s : Nat} (hs : s < 65536) (h1 : a1 0 = nI s) (hp : ∀ b2 b3 b4, bb_M (bb_cp s) b2 b3 → bb_B (bb_bl (bb_cp s) 16) b4 → post (1, 1, nI (bb_cp s).length, nI (bb_bl (bb_cp s) 16).length, nI (bb_bd (bb_cp s) 16), nI (bb_zs (bb_bl (bb_cp s) 16) 16), a1, b2, b3, b4)) : wpX_learn post (1, 0, sz, bc, bs, zs, a1, a2, a3, a4) := by
  unfold wpX_learn
  dsimp only
  exact br_t rfl (bb_complete hs h1 (fun b2 b3 hb => bb_l33 hb (fun b4 hb4 => hp b2 b3 b4 hb hb4)))
theorem bb_learn1 {post : St2 → Prop} (hp : post (pr, 1, sz, bc, bs, zs, a1, a2, a3, a4)) : wpX_learn post (pr, 1, sz, bc, bs, zs, a1, a2, a3, a4) := by
  unfold wpX_learn
  dsimp only
  exact br_f (by decide) hp
theorem bb_zeros {post : Int32 → St2 → Prop} {s : Nat} (hs : s < 65536) (h1 : a1 0 = nI s) (hp : ∀ b2 b3 b4, bb_M (bb_cp s) b2 b3 → bb_B (bb_bl (bb_cp s) 16) b4 → post (nI (bb_zs (bb_bl (bb_cp s) 16) 16)) (1, 1, nI (bb_cp s).length, nI (bb_bl (bb_cp s) 16).length, nI (bb_bd (bb_cp s) 16), nI (bb_zs (bb_bl (bb_cp s) 16) 16), a1, b2, b3, b4)) : wpX_zeros post (1, 0, sz, bc, bs, zs, a1, a2, a3, a4) := by
  unfold wpX_zeros
  dsimp only
  exact bb_learn hs h1 (fun b2 b3 b4 hb hb4 => hp b2 b3 b4 hb hb4)
theorem bb_zeroCount {post : Int32 → St2 → Prop} {z : Nat} (hz : z < 65536) (hp : post (nI (bb_ct z 16)) (pr, 1, sz, bc, bs, nI z, a1, a2, a3, a4)) : wpX_zeroCount post (pr, 1, sz, bc, bs, nI z, a1, a2, a3, a4) := by
  unfold wpX_zeroCount
  dsimp only
  refine bb_learn1 ?_
  exact pk_loop (fun n i r => wX_zeroCount_8 post pr 1 sz bc bs (nI z) a1 a2 a3 a4 n r (nI i)) (fun i r => r = nI (bb_ct z i)) 16 0 0 (by omega) rfl
    (fun n r h => pk_le 16 16 (fun _ => by rw [h]; exact hp) (fun z => absurd z (by omega)))
    (fun n i r hi h hw => pk_le 16 i (fun z => absurd z (by omega)) (fun _ => nm_r (e' := nI (bb_ct z (i + 1))) (by rw [h, bb_bit hz (by omega), nI_add, bb_ct_s]) (nm_r (nI_1 i) (hw _ rfl))))
theorem bb_values {post : Int32 → St2 → Prop} {z : Nat} (hz : z < 65536) (hp : post (nI (bb_vs z 16)) (pr, 1, sz, bc, bs, nI z, a1, a2, a3, a4)) : wpX_values post (pr, 1, sz, bc, bs, nI z, a1, a2, a3, a4) 3 := by
  unfold wpX_values
  dsimp only
  refine br_f (by decide) (br_t (by decide) (bb_learn1 ?_))
  refine pk_loop (fun n i r => wX_values_19 post 3 pr 1 sz bc bs (nI z) a1 a2 a3 a4 n r (nI i)) (fun i r => r = nI (bb_vs z i)) 16 0 0 (by omega) rfl
    (fun n r h => pk_le 16 16 (fun _ => by rw [h]; exact hp) (fun z => absurd z (by omega)))
    (fun n i r hi h hw => pk_le 16 i (fun z => absurd z (by omega)) (fun _ => bb_br z i hz (by omega)
      (fun g => nm_r (nI_1 i) (hw _ (by rw [h, bb_vs_s, g]; rfl)))
      (fun g => nm_r (e' := nI (bb_vs z (i + 1))) ?_ (nm_r (nI_1 i) (hw _ rfl)))))
  have e : (nI i >>> ((3 : Int32) &&& 31)) &&& 1 = nI (i.testBit 3).toNat := bb_bit (k := 3) (by omega) (by omega)
  rw [h, e, bb_sh _ (by cases i.testBit 3 <;> decide), bb_or, bb_vs_s, g]
  rfl
theorem bb_contains {post : Int32 → St2 → Prop} {f : Nat} (hM : bb_M ps a2 a3) (hf : f < 65536) (h0 : bb_rd ps 16 f = 0) (hp : post 1 (pr, 1, nI ps.length, bc, bs, zs, a1, a2, a3, a4)) : wpX_contains post (pr, 1, nI ps.length, bc, bs, zs, a1, a2, a3, a4) (nI f) := by
  unfold wpX_contains
  dsimp only
  refine bb_isP hf (br_f (by decide) (bb_learn1 (bb_reduce hM hf ?_)))
  rw [h0]
  exact br_t rfl hp
theorem bb_rest {post : Int32 → St2 → Prop} {f : Nat} (hM : bb_M ps a2 a3) (hf : f < 65536) (hp : post (nI (bb_rd ps 16 f)) (pr, 1, nI ps.length, bc, bs, zs, a1, a2, a3, a4)) : wpX_rest post (pr, 1, nI ps.length, bc, bs, zs, a1, a2, a3, a4) (nI f) := by
  unfold wpX_rest
  dsimp only
  exact bb_isP hf (br_f (by decide) (bb_learn1 (bb_reduce hM hf hp)))
theorem bb_bound {post : Int32 → St2 → Prop} (hp : post bs (pr, 1, sz, bc, bs, zs, a1, a2, a3, a4)) : wpX_bound post (pr, 1, sz, bc, bs, zs, a1, a2, a3, a4) := by
  unfold wpX_bound
  dsimp only
  exact bb_learn1 hp
theorem bb_basisSize {post : Int32 → St2 → Prop} (hp : post bc (pr, 1, sz, bc, bs, zs, a1, a2, a3, a4)) : wpX_basisSize post (pr, 1, sz, bc, bs, zs, a1, a2, a3, a4) := by
  unfold wpX_basisSize
  dsimp only
  exact bb_learn1 hp
theorem bb_redundant {post : Int32 → St2 → Prop} (hp : post 0 (1, kn, sz, bc, bs, zs, a1, a2, a3, a4)) : wpX_redundant post (1, kn, sz, bc, bs, zs, a1, a2, a3, a4) 1 := by
  unfold wpX_redundant
  dsimp only
  unfold wpX_has
  dsimp only
  exact br_f (by decide) (br_f (by decide) (br_t (by decide) (br_t rfl hp)))
theorem bb_relates {post : Int32 → St2 → Prop} {z : Nat} (hz : z < 65536) (hp : post (nI (bb_rl (bb_sn z 16) 16).toNat) (pr, 1, sz, bc, bs, nI z, a1, a2, a3, a4)) : wpX_relates post (pr, 1, sz, bc, bs, nI z, a1, a2, a3, a4) 3 := by
  unfold wpX_relates
  dsimp only
  refine br_f (by decide) (br_t (by decide) (bb_learn1 ?_))
  have hs := bb_sn_lt (z := z) 16
  refine pk_loop (fun n i r => wX_relates_20 post 3 pr 1 sz bc bs (nI z) a1 a2 a3 a4 n r (nI i)) (fun i r => r = nI (bb_sn z i)) 16 0 0 (by omega) rfl
    (fun n r h => pk_le 16 16 (fun _ => ?_) (fun z => absurd z (by omega)))
    (fun n i r hi h hw => pk_le 16 i (fun z => absurd z (by omega)) (fun _ => bb_br z i hz (by omega)
      (fun g => nm_r (nI_1 i) (hw _ (by rw [h, bb_sn_s, g]; rfl)))
      (fun g => nm_r (e' := nI (bb_sn z (i + 1))) ?_ (nm_r (nI_1 i) (hw _ rfl)))))
  · have h : r = nI (bb_sn z 16) := h
    subst h
    generalize bb_sn z 16 = y at hs hp
    refine pk_loop (σ := Unit) (fun n q _ => wX_relates_53 post 3 (nI y) pr 1 sz bc bs (nI z) a1 a2 a3 a4 n (nI q)) (fun q _ => bb_rl y q = false) 16 0 () (by omega) rfl ?_ ?_
    · intro n _ h
      have h : bb_rl y 16 = false := h
      rw [h] at hp
      exact pk_le 16 16 (fun _ => hp) (fun z => absurd z (by omega))
    · intro n q _ hq h hw
      have h : bb_rl y q = false := h
      have hr := bb_rl_s y q
      rw [h, Bool.false_or] at hr
      refine pk_le 16 q (fun z => absurd z (by omega)) (fun _ => bb_ab q 3 hq (by omega) (fun c => bb_br y q hs (by omega) (fun d => ?_) (fun d => nm_r (nI_1 q) (hw () ?_))) (fun c => nm_r (nI_1 q) (hw () ?_)))
      · have ht : bb_rl y (q + 1) = true := by rw [hr, c, d]; rfl
        have ht16 := bb_rl_t ht (16 - (q + 1))
        rw [show q + 1 + (16 - (q + 1)) = 16 by omega] at ht16
        rw [ht16] at hp
        exact hp
      · show bb_rl y (q + 1) = false
        rw [hr, c, d]
        rfl
      · show bb_rl y (q + 1) = false
        rw [hr, c]
        rfl
  · have e : nI i &&& (3 : Int32) = nI (i &&& 3) := nx_and i 3
    rw [h, e, bb_sh _ (Nat.lt_of_le_of_lt Nat.and_le_left (by omega)), bb_or, bb_sn_s, g]
    rfl
end
end
section
/-! ===== the sixteen inputs: tables, and what holds of them (the tables' rows are printed by wip/D-11723/tables.py) ===== -/
def bb_tS (t : Nat) : Nat := [1, 14, 11, 4, 13, 2, 7, 8, 9, 6, 3, 12, 5, 10, 15, 0].getD t 0
def bb_tP (t : Nat) : List (Nat × Nat) := [[(1, 0)], [(14, 3), (2, 1), (4, 2)], [(11, 3), (3, 1), (4, 2)], [(4, 2)], [(13, 3), (2, 1), (5, 2)], [(2, 1)], [(7, 2)], [(8, 3)], [(9, 3), (3, 1), (5, 2)], [(6, 2)], [(3, 1)], [(12, 3)], [(5, 2)], [(10, 3)], [(15, 3)], []].getD t []
def bb_tL (t : Nat) : List Nat := [[1], [2, 4], [3, 4], [4], [2, 5], [2], [7], [8], [3, 5], [6], [3], [12], [5], [10], [15], []].getD t []
def bb_tB (t : Nat) : Nat := [65535, 61166, 61166, 52428, 61166, 43690, 52428, 34952, 61166, 52428, 43690, 34952, 52428, 34952, 34952, 0].getD t 0
def bb_tZ (t : Nat) : Nat := [0, 4369, 8738, 13107, 17476, 21845, 26214, 30583, 34952, 39321, 43690, 48059, 52428, 56797, 61166, 65535].getD t 0
theorem bb_f1 : ∀ t, t < 16 → bb_sm t 4 = bb_tS t := by decide +kernel
theorem bb_f2 : ∀ t, t < 16 → bb_cp (bb_tS t) = bb_tP t := by decide +kernel
theorem bb_f3 : ∀ t, t < 16 → bb_bl (bb_tP t) 16 = bb_tL t := by decide +kernel
theorem bb_f4 : ∀ t, t < 16 → bb_bd (bb_tP t) 16 = bb_tB t := by decide +kernel
theorem bb_f5 : ∀ t, t < 16 → bb_zs (bb_tL t) 16 = bb_tZ t := by decide +kernel
theorem bb_g1 : ∀ t, t < 16 → (bb_tS t < 65536 ∧ bb_tB t < 65536 ∧ bb_tZ t < 65536 ∧ bb_ct t 4 ≤ 4 ∧ (bb_tL t).length ≤ 16) := by decide +kernel
theorem bb_g2 : ∀ t, t < 16 → (bb_tZ t = bb_du t 4 ∧ bb_ct (bb_tZ t) 16 = 4 * bb_ct t 4 ∧ bb_rd (bb_tP t) 16 (bb_tS t) = 0 ∧ bb_vs (bb_tZ t) 16 = (bif bb_ct t 4 == 0 then 0 else 3)) := by decide +kernel
theorem bb_g3 : ∀ t, t < 16 → (bb_os (bb_tB t) 4 = 16 - 4 * bb_ct t 4 ∧ bb_tB t % 2 = (bb_ct t 4 == 0).toNat ∧ bb_rl (bb_sn (bb_tZ t) 16) 16 = decide (bb_ct t 4 < 4) ∧ (bb_ct t 4 < 4 → 1 ≤ (bb_tL t).length)) := by decide +kernel
theorem bb_g4 : ∀ t, t < 16 → ∀ k, k < 16 → bb_rd (bb_tP t) 16 (2 ^ k) &&& bb_tB t = 0 := by decide +kernel
theorem bb_g5 : ∀ t, t < 16 → ∀ p, p < 4 → t.testBit p = true → ∀ k, k < 16 → bb_va (2 ^ k) p 16 = bb_va (bb_rd (bb_tP t) 16 (2 ^ k)) p 16 := by decide +kernel
theorem bb_g6 : ∀ t, t < 16 → ∀ k, k < 16 → bb_rd (bb_tP t) 16 (bb_tm (bb_tS t) k 16) = 0 := by decide +kernel
theorem bb_o1 : ∀ p, p < 4 → (bb_va (bb_on1 p) p 16 = 1 ∧ bb_va (bb_on1 p) (3 - p) 16 = 0) := by decide +kernel
def bb_OK (t s : Nat) (ps : List (Nat × Nat)) (bl : List Nat) (b z n : Nat) : Prop :=
  (s < 65536 ∧ b < 65536 ∧ z < 65536 ∧ n ≤ 4 ∧ bl.length ≤ 16) ∧
  (z = bb_du t 4 ∧ bb_ct z 16 = 4 * n ∧ bb_rd ps 16 s = 0 ∧ bb_vs z 16 = (bif n == 0 then 0 else 3)) ∧
  (bb_os b 4 = 16 - 4 * n ∧ b % 2 = (n == 0).toNat ∧ bb_rl (bb_sn z 16) 16 = decide (n < 4) ∧ (n < 4 → 1 ≤ bl.length)) ∧
  (∀ f, f < 65536 → bb_rd ps 16 f &&& b = 0) ∧
  (∀ p, p < 4 → t.testBit p = true → ∀ f, f < 65536 → bb_va f p 16 = bb_va (bb_rd ps 16 f) p 16) ∧
  (∀ g, bb_rd ps 16 (bb_pr s g 16) = 0)
theorem bb_ok {t : Nat} (ht : t < 16) : bb_OK t (bb_sm t 4) (bb_cp (bb_sm t 4)) (bb_bl (bb_cp (bb_sm t 4)) 16) (bb_bd (bb_cp (bb_sm t 4)) 16) (bb_zs (bb_bl (bb_cp (bb_sm t 4)) 16) 16) (bb_ct t 4) := by
  rw [bb_f1 t ht, bb_f2 t ht, bb_f3 t ht, bb_f4 t ht, bb_f5 t ht]
  refine ⟨bb_g1 t ht, bb_g2 t ht, bb_g3 t ht, ?_, ?_, ?_⟩
  · refine bb_ind _ (by rw [bb_rd_0, Nat.zero_and]) (fun a c ha hc => ?_) (bb_g4 t ht)
    rw [bb_rd_lin, Nat.and_xor_distrib_right, ha, hc]
    rfl
  · intro p hp hb
    refine bb_ind _ (by rw [bb_rd_0]) (fun a c ha hc => ?_) (bb_g5 t ht p hp hb)
    rw [bb_rd_lin, bb_va_lin, bb_va_lin, ha, hc]
  · exact fun g => bb_mul (bb_g6 t ht) g 16 (Nat.le_refl _)
end
section
/-! ===== the law ===== -/
theorem bb_tb1 {x : Int32} {c : Bool} {A B : Prop} (hx : x = nI c.toNat) (h1 : c = true → A) (h0 : c = false → B) : (x = 1 → A) ∧ (¬ x = 1 → B) := by
  subst hx
  cases c
  · exact br_f (by decide) (h0 rfl)
  · exact br_t rfl (h1 rfl)
theorem bb_q1 : ∀ p, p < 4 → ((nI p &&& 1) = 1 ↔ p.testBit 0 = true) := by decide +kernel
theorem bb_q2 : ∀ p, p < 4 → ((nI p &&& 2) = 2 ↔ p.testBit 1 = true) := by decide +kernel
theorem bb_q3 : ∀ c, c < 4 → (4369 : Int32) <<< (nI c &&& 31) = nI (4369 * 2 ^ c) := by decide +kernel
section
variable {post : Int32 → St0 → Prop} {mc ms kc ks : Nat} {x2 z0 z1 sz bc bs zs : Int32} {a1 a2 a3 a4 : Nat → Int32} {t s b z n f g : Nat} {ps : List (Nat × Nat)} {bl : List Nat}
theorem bb_L550 (H : bb_OK t s ps bl b z n) (e : z1 = z0) (hp : post 1 ()) : wL_lawOf_550 post mc ms (nI n) z0 z1 kc ks 1 1 sz (nI bl.length) bs zs a1 a2 a3 a4 := by
  obtain ⟨⟨_, _, _, hn, hbl⟩, _, ⟨_, _, _, hb1⟩, _⟩ := H
  refine br_t e (bb_redundant (br_t rfl (bb_basisSize (pk_le 4 n (fun c => ?_) (fun c => ?_)))))
  · exact pk_lt bl.length 0 (fun c => absurd c (by omega)) (fun _ => hp)
  · have h1 := hb1 c
    exact pk_lt bl.length 1 (fun c => absurd c (by omega)) (fun _ => hp)
theorem bb_L500 (H : bb_OK t s ps bl b z n) (hM : bb_M ps a2 a3) (hf : f < 65536) (e : z1 = z0) (hp : post 1 ()) : wL_lawOf_500 post mc ms (nI f) (nI n) (nI (bb_rd ps 16 f)) (nI b) (nI (bb_pr s g 16)) z0 z1 kc ks 1 1 (nI ps.length) (nI bl.length) (nI b) (nI z) a1 a2 a3 a4 := by
  have H' := H
  obtain ⟨⟨hs, hb, hz, hn, hbl⟩, _, ⟨_, _, hrl, _⟩, hand, _, hmul⟩ := H
  have hw : bb_pr s g 16 < 65536 := bb_pr_lt 16 (Nat.le_refl _)
  refine br_t e (br_t (by rw [nx_and, hand f hf]; rfl) (bb_contains hM hw (hmul g) (br_f (by decide) ?_)))
  rw [nx_xor f]
  refine bb_rest hM (bb_xlt hf hw) (br_t (by rw [bb_rd_lin, hmul g, Nat.xor_zero]) (bb_relates hz (pk_le 4 n (fun c => bb_L550 H' ?_ hp) (fun c => bb_L550 H' ?_ hp))))
  · rw [hrl, decide_eq_false (by omega)]
    rfl
  · rw [hrl, decide_eq_true c]
    rfl
theorem bb_L448 (H : bb_OK t s ps bl b z n) (hM : bb_M ps a2 a3) (hf : f < 65536) (e : z0 = nI (n == 0).toNat) (hp : post 1 ()) : wL_lawOf_448 post mc ms x2 (nI f) (nI s) (nI n) 1 (nI (bb_rd ps 16 f)) 1 (nI (bb_os b 4)) (nI b) z0 kc ks 1 1 (nI ps.length) (nI bl.length) (nI b) (nI z) a1 a2 a3 a4 := by
  have H' := H
  obtain ⟨⟨hs, hb, hz, hn, hbl⟩, _, ⟨hos, _, _, _⟩, _⟩ := H
  obtain ⟨g, hg, eg⟩ := pk_andE x2 (m := 65535) 16 (by decide)
  refine nm_r eg (bb_product hs hg (br_f (by decide) (br_f (by decide) (br_t ?_ (pk_eq n 0 (fun c => bb_L500 H' hM hf ?_ hp) (fun c => bb_L500 H' hM hf ?_ hp))))))
  · rw [hos]
    show nI (16 - 4 * n) = nI 16 - nI 4 * nI n
    rw [pk_mul, pk_sub (by omega)]
  · rw [e, c]
    rfl
  · rw [e, beq_eq_false_iff_ne.mpr c]
    rfl
theorem bb_L377 (H : bb_OK t s ps bl b z n) (hM : bb_M ps a2 a3) (hf : f < 65536) (hp : post 1 ()) : ∃ k, wL_lawOf_377 post mc ms x2 (nI f) (nI s) (nI n) 1 (nI (bb_rd ps 16 f)) 1 (nI b) kc ks 1 1 (nI ps.length) (nI bl.length) (nI b) (nI z) a1 a2 a3 a4 k 0 0 := by
  have H' := H
  obtain ⟨⟨hs, hb, hz, hn, hbl⟩, _, ⟨_, hb2, _, _⟩, _⟩ := H
  have e1 : nI b &&& 1 = nI (n == 0).toNat := by rw [← hb2]; exact pk_andN (by omega) 1 (by decide)
  refine pk_loop (fun k m r => wL_lawOf_377 post mc ms x2 (nI f) (nI s) (nI n) 1 (nI (bb_rd ps 16 f)) 1 (nI b) kc ks 1 1 (nI ps.length) (nI bl.length) (nI b) (nI z) a1 a2 a3 a4 k r (nI m)) (fun m r => r = nI (bb_os b m)) 4 0 0 (by omega) rfl ?_ ?_
  · intro k r h
    have h : r = nI (bb_os b 4) := h
    subst h
    exact pk_le 4 4 (fun _ => bb_bound (bb_tb1 e1 (fun c => bb_L448 H' hM hf (by rw [c]; rfl) hp) (fun c => bb_L448 H' hM hf (by rw [c]; rfl) hp))) (fun c => absurd c (by omega))
  · intro k m r hm h hw
    have h : r = nI (bb_os b m) := h
    subst h
    refine pk_le 4 m (fun c => absurd c (by omega)) (fun _ => nm_r (e' := nI (bb_os b (m + 1))) ?_ (nm_r (nI_1 m) (hw _ rfl)))
    rw [show nI m + 4 = nI (m + 4) from nI_add m 4, show nI m + 8 = nI (m + 8) from nI_add m 8, show nI m + 12 = nI (m + 12) from nI_add m 12, bb_bit hb (by omega), bb_bit hb (by omega), bb_bit hb (by omega), bb_bit hb (by omega), nI_add, nI_add, nI_add, nI_add, bb_os_s]
theorem bb_L291 (H : bb_OK t s ps bl b z n) (hM : bb_M ps a2 a3) (ht : t < 16) (hf : f < 65536) (hp : post 1 ()) : ∃ k, wL_lawOf_291 post mc ms x2 (nI t) (nI f) (nI s) (nI n) 1 (nI (bb_rd ps 16 f)) kc ks 1 1 (nI ps.length) (nI bl.length) (nI b) (nI z) a1 a2 a3 a4 k 1 0 := by
  have H' := H
  obtain ⟨_, _, _, _, hva, _⟩ := H
  have hr : bb_rd ps 16 f < 65536 := bb_rd_lt 16 f (Nat.le_refl _) hf
  refine pk_loop (fun k p r => wL_lawOf_291 post mc ms x2 (nI t) (nI f) (nI s) (nI n) 1 (nI (bb_rd ps 16 f)) kc ks 1 1 (nI ps.length) (nI bl.length) (nI b) (nI z) a1 a2 a3 a4 k r (nI p)) (fun _ r => r = 1) 4 0 1 (by omega) rfl ?_ ?_
  · intro k r h
    have h : r = 1 := h
    subst h
    exact pk_le 4 4 (fun _ => bb_bound (bb_L377 H' hM hf hp)) (fun c => absurd c (by omega))
  · intro k p r hp4 h hw
    have h : r = 1 := h
    subst h
    refine pk_le 4 p (fun c => absurd c (by omega)) (fun _ => bb_br1 t p (by omega) (by omega) (fun c => ?_) (fun c => ?_))
    · exact bb_value hf (by omega) (bb_value hr (by omega) (br_f (by decide) (br_f (by decide) (br_t (by rw [hva p hp4 c f hf]) (nm_r (nI_1 p) (hw 1 rfl))))))
    · exact bb_value hf (by omega) (bb_value hr (by omega) (br_f (by decide) (br_t rfl (nm_r (nI_1 p) (hw 1 rfl)))))
theorem bb_L267 (H : bb_OK t s ps bl b z n) (hM : bb_M ps a2 a3) (ht : t < 16) (hf : f < 65536) (e : z1 = z0) (hp : post 1 ()) : wL_lawOf_267 post mc ms x2 (nI t) (nI f) (nI s) (nI n) z0 z1 kc ks 1 1 (nI ps.length) (nI bl.length) (nI b) (nI z) a1 a2 a3 a4 :=
  br_t e (bb_rest hM hf (bb_L291 H hM ht hf hp))
theorem bb_L194 (ht : t < 16) (hf : f < 65536) (h1 : a1 0 = nI (bb_sm t 4)) (hp : post 1 ()) : ∃ k, wL_lawOf_194 post mc ms x2 (nI t) (nI f) (nI (bb_sm t 4)) 0 (nI (bb_du t 4)) kc ks 1 0 sz bc bs zs a1 a2 a3 a4 k 0 0 := by
  have H := bb_ok ht
  have H' := H
  obtain ⟨⟨hs, hb, hz, hn, hbl⟩, ⟨hdu, hct, h0, hvs⟩, _⟩ := H
  refine pk_loop (fun k i r => wL_lawOf_194 post mc ms x2 (nI t) (nI f) (nI (bb_sm t 4)) 0 (nI (bb_du t 4)) kc ks 1 0 sz bc bs zs a1 a2 a3 a4 k r (nI i)) (fun i r => r = nI (bb_ct t i)) 4 0 0 (by omega) rfl ?_ ?_
  · intro k r h
    have h : r = nI (bb_ct t 4) := h
    subst h
    refine pk_le 4 4 (fun _ => br_t rfl (bb_zeros hs h1 (fun b2 b3 b4 hM hB => br_t (by rw [hdu]) (bb_zeroCount hz (br_t ?_ (bb_contains hM hs h0 (br_f (by decide) (bb_values hz (pk_eq (bb_ct t 4) 0 (fun c => bb_L267 H' hM ht hf ?_ hp) (fun c => bb_L267 H' hM ht hf ?_ hp)))))))))) (fun c => absurd c (by omega))
    · rw [hct]
      exact (pk_mul 4 (bb_ct t 4)).symm
    · rw [hvs, c]
      rfl
    · rw [hvs, beq_eq_false_iff_ne.mpr c]
      rfl
  · intro k i r hi h hw
    have h : r = nI (bb_ct t i) := h
    subst h
    exact pk_le 4 i (fun c => absurd c (by omega)) (fun _ => nm_r (e' := nI (bb_ct t (i + 1))) (by rw [bb_bit (by omega) (by omega), nI_add, bb_ct_s]) (nm_r (nI_1 i) (hw _ rfl)))
theorem bb_L149 (ht : t < 16) (hf : f < 65536) (h1 : a1 0 = nI (bb_sm t 4)) (hp : post 1 ()) : ∃ k, wL_lawOf_149 post mc ms x2 (nI t) (nI f) (nI (bb_sm t 4)) 0 kc ks 1 0 sz bc bs zs a1 a2 a3 a4 k 0 0 :=
  pk_loop (fun k i r => wL_lawOf_149 post mc ms x2 (nI t) (nI f) (nI (bb_sm t 4)) 0 kc ks 1 0 sz bc bs zs a1 a2 a3 a4 k r (nI i)) (fun i r => r = nI (bb_du t i)) 4 0 0 (by omega) rfl
    (fun k r h => pk_le 4 4 (fun _ => by rw [h]; exact bb_L194 ht hf h1 hp) (fun c => absurd c (by omega)))
    (fun k i r hi h hw => pk_le 4 i (fun c => absurd c (by omega)) (fun _ => bb_br1 t i (by omega) (by omega)
      (fun c => nm_r (e' := nI (bb_du t (i + 1))) (by rw [h, bb_q3 i hi, bb_or, bb_du_s, c]; rfl) (nm_r (nI_1 i) (hw _ rfl)))
      (fun c => nm_r (nI_1 i) (hw _ (by rw [h, bb_du_s, c]; rfl)))))
theorem bb_add {po : Int32 → St2 → Prop} (hs : s < 65536) (hp : po 0 (1, 0, sz, bc, bs, zs, upd a1 0 (nI s), a2, a3, a4)) : wpX_add po (0, 0, sz, bc, bs, zs, a1, a2, a3, a4) (nI s) := by
  unfold wpX_add
  dsimp only
  refine bb_isP hs (br_f (by decide) (Exists.intro 1 ?_))
  refine br_f (by decide) ?_
  unfold wpX_has
  dsimp only
  exact br_f (by decide) (br_f (by decide) (br_t (by decide) (br_t rfl (nm_r (e' := 1) (by decide) ⟨pk_in 0 6 (by omega), nm_e hp⟩))))
theorem bb_L26 (ht : t < 16) (hf : f < 65536) (hp : post 1 ()) : ∃ k, wL_lawOf_26 post mc ms x2 (nI t) (nI f) kc ks 0 0 sz bc bs zs a1 a2 a3 a4 k 0 0 := by
  have hs : bb_sm t 4 < 65536 := (bb_ok ht).1.1
  refine pk_loop (fun k p r => wL_lawOf_26 post mc ms x2 (nI t) (nI f) kc ks 0 0 sz bc bs zs a1 a2 a3 a4 k r (nI p)) (fun p r => r = nI (bb_sm t p)) 4 0 0 (by omega) rfl ?_ ?_
  · intro k r h
    have h : r = nI (bb_sm t 4) := h
    subst h
    exact pk_le 4 4 (fun _ => bb_add hs (bb_L149 ht hf pk_us hp)) (fun c => absurd c (by omega))
  · intro k p r hp4 h hw
    have h : r = nI (bb_sm t p) := h
    subst h
    obtain ⟨v1, v2⟩ := bb_o1 p hp4
    have ho : bb_on1 p < 65536 := bb_pr_lt 16 (Nat.le_refl _)
    have key : ∀ x y, x < 65536 → y < 65536 → bb_pr x y 16 = bb_on1 p → wL_lawOf_60 post mc ms (wL_lawOf_26 post mc ms x2 (nI t) (nI f) kc ks 0 0 sz bc bs zs a1 a2 a3 a4 k) x2 (nI t) (nI f) (nI (bb_sm t p)) (nI p) (nI x) (nI y) kc ks 0 0 sz bc bs zs a1 a2 a3 a4 := by
      intro x y hx hy e
      unfold wL_lawOf_60
      rw [show (3 : Int32) - nI p = nI (3 - p) from pk_sub (a := 3) (by omega)]
      refine bb_product hx hy ?_
      rw [e]
      refine bb_value ho (by omega) (bb_value ho (by omega) (br_t (by rw [v1]; rfl) (br_t (by rw [v2]; rfl) (bb_br t p (by omega) (by omega) (fun c => ?_) (fun c => ?_)))))
      · exact nm_r (e' := nI (bb_sm t (p + 1))) (by rw [nx_xor, bb_sm_s, c]; rfl) (nm_r (nI_1 p) (hw _ rfl))
      · exact nm_r (nI_1 p) (hw _ (by rw [bb_sm_s, c]; rfl))
    refine pk_le 4 p (fun c => absurd c (by omega)) (fun _ => ek_if (bb_q1 p hp4) (fun c => ek_if (bb_q2 p hp4) (fun d => key 2 4 (by omega) (by omega) ?_) (fun d => key 2 5 (by omega) (by omega) ?_)) (fun c => ek_if (bb_q2 p hp4) (fun d => key 3 4 (by omega) (by omega) ?_) (fun d => key 3 5 (by omega) (by omega) ?_)))
    · unfold bb_on1
      rw [c, d]
      rfl
    · unfold bb_on1
      rw [c, Bool.eq_false_iff.mpr d]
      rfl
    · unfold bb_on1
      rw [Bool.eq_false_iff.mpr c, d]
      rfl
    · unfold bb_on1
      rw [Bool.eq_false_iff.mpr c, Bool.eq_false_iff.mpr d]
      rfl
end
theorem bb_lawOf {post : Int32 → St0 → Prop} (p0 p1 p2 : Int32) (hp : post 1 ()) : wpL_lawOf post 46 736 () p0 p1 p2 := by
  obtain ⟨t, ht, et⟩ := pk_andE p0 (m := 15) 4 (by decide)
  obtain ⟨f, hf, ef⟩ := pk_andE p1 (m := 65535) 16 (by decide)
  refine ⟨by omega, by omega, 45, 726, by omega, by omega, ⟨by omega, by omega, by omega, by omega, by omega, by omega, by omega, by omega, ?_⟩⟩
  exact nm_r et (nm_r ef (bb_L26 ht hf hp))
theorem bb_cell {post : Int32 → Prop} {L : Nat} {xs : Nat → Int32} (k : Nat) (hk : k < 3) (hL : L ≤ 3) (h : ∀ r, post r) : wpL_cellAt post L xs () (nI k) :=
  pk_le L k (fun _ => h 0) (fun z => ⟨pk_in k L z, h _⟩)
theorem i_vc (xs : Nat → Int32) (L : Nat) (hL : L ≤ 3) : wpL_law (fun r => r = 1) L xs :=
  bb_cell 0 (by omega) hL (fun r1 => bb_cell 1 (by omega) hL (fun r2 => bb_cell 2 (by omega) hL (fun r3 => ⟨46, 736, by omega, by omega, bb_lawOf r1 r2 r3 rfl⟩)))
end
