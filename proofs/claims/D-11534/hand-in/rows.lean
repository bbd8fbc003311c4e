section
/-! naturals as Int32 under or, and, xor, shifts; one bit -/
theorem td_sl : ∀ n, n < 32 → ((nI n &&& 31).toBitVec.smod 32).toNat = n := by decide +kernel
theorem td_and (a b : Nat) : nI a &&& nI b = nI (a &&& b) := by
  apply Int32.toBitVec_inj.1
  show BitVec.ofNat 32 a &&& BitVec.ofNat 32 b = BitVec.ofNat 32 (a &&& b)
  apply BitVec.eq_of_getLsbD_eq
  intro i hi
  simp [hi]
theorem td_or (a b : Nat) : nI a ||| nI b = nI (a ||| b) := by
  apply Int32.toBitVec_inj.1
  show BitVec.ofNat 32 a ||| BitVec.ofNat 32 b = BitVec.ofNat 32 (a ||| b)
  apply BitVec.eq_of_getLsbD_eq
  intro i hi
  simp [hi]
theorem td_xor (a b : Nat) : nI a ^^^ nI b = nI (a ^^^ b) := by
  apply Int32.toBitVec_inj.1
  show BitVec.ofNat 32 a ^^^ BitVec.ofNat 32 b = BitVec.ofNat 32 (a ^^^ b)
  apply BitVec.eq_of_getLsbD_eq
  intro i hi
  simp [hi]
theorem td_shr {n k : Nat} (hn : n < 2 ^ 31) (hk : k < 32) : nI n >>> (nI k &&& 31) = nI (n / 2 ^ k) := pk_shrN hn _ k (td_sl k hk)
theorem td_h1 {n : Nat} (hn : n < 2 ^ 31) : nI n >>> ((1 : Int32) &&& 31) = nI (n / 2) := td_shr (k := 1) hn (by omega)
/-- a truth value as the JVM's int -/
def td_b (b : Bool) : Int32 := bif b then 1 else 0
theorem td_bit {n k : Nat} (hn : n < 2 ^ 31) (hk : k < 32) : (nI n >>> (nI k &&& 31)) &&& 1 = td_b (n.testBit k) := by
  rw [td_shr hn hk, Nat.testBit_eq_decide_div_mod_eq]
  have h2 : n / 2 ^ k ≤ n := Nat.div_le_self _ _
  rw [pk_andN (m := 1) (show n / 2 ^ k < 2 ^ 32 by omega) 1 (by decide)]
  generalize n / 2 ^ k = z
  have h : z % 2 = 0 ∨ z % 2 = 1 := by omega
  show nI (z % 2) = _
  rcases h with e | e
  · rw [e]; decide
  · rw [e]; decide
theorem td_low {n : Nat} (hn : n < 2 ^ 31) : nI n &&& 1 = td_b (n.testBit 0) := by
  have h := td_bit (n := n) (k := 0) hn (by omega)
  rw [td_shr hn (by omega), Nat.pow_zero, Nat.div_one] at h
  exact h
theorem td_br {A B : Prop} (b : Bool) (f : b = true → B) (g : b = false → A) : (td_b b = 0 → A) ∧ (¬ td_b b = 0 → B) := by
  cases b
  · exact br_t rfl (g rfl)
  · exact br_f (by decide) (f rfl)
theorem td_brx {A B : Prop} {x : Int32} (b : Bool) (hx : x = td_b b) (f : b = true → B) (g : b = false → A) : (x = 0 → A) ∧ (¬ x = 0 → B) := by
  subst hx
  exact td_br b f g
theorem td_beq {A B : Prop} {x y : Int32} (b c : Bool) (hx : x = td_b b) (hy : y = td_b c) (f : b = c → A) (g : b ≠ c → B) : (x = y → A) ∧ (¬ x = y → B) := by
  subst hx hy
  by_cases e : b = c
  · exact br_t (by rw [e]) (f e)
  · refine br_f ?_ (g e)
    revert e
    cases b <;> cases c <;> decide
theorem td_nar (b : Bool) : narrow .boolean (.int (td_b b)) = .int (td_b b) := by cases b <;> rfl
theorem td_shl1 {k : Nat} (hk : k < 30) : (1 : Int32) <<< (nI k &&& 31) = nI (2 ^ k) := (by decide +kernel : ∀ k, k < 30 → (1 : Int32) <<< (nI k &&& 31) = nI (2 ^ k)) k hk
theorem td_shl2 {k : Nat} (hk : k < 29) : (2 : Int32) <<< (nI k &&& 31) = nI (2 ^ (k + 1)) := (by decide +kernel : ∀ k, k < 29 → (2 : Int32) <<< (nI k &&& 31) = nI (2 ^ (k + 1))) k hk
theorem td_shl3 {k : Nat} (hk : k < 28) : (3 : Int32) <<< (nI k &&& 31) = nI (3 * 2 ^ k) := (by decide +kernel : ∀ k, k < 28 → (3 : Int32) <<< (nI k &&& 31) = nI (3 * 2 ^ k)) k hk
theorem td_2 (j : Nat) : (2 : Int32) * nI j = nI (2 * j) := pk_mul 2 j
theorem td_ch {n : Nat} (h : n < 65536) : ((nI n).toUInt32 % 65536).toInt32 = nI n := by
  rw [pk_char, pk_tn (by omega), Nat.mod_eq_of_lt h]
theorem td_orlt {a b : Nat} (ha : a < 65536) (hb : b < 65536) : a ||| b < 65536 := Nat.or_lt_two_pow (n := 16) ha hb
theorem td_2lt {k : Nat} (hk : k < 16) : 2 ^ k < 65536 := Nat.pow_lt_pow_right (a := 2) (n := 16) (by decide) hk
theorem td_x1 {d : Nat} (hd : d < 16) : d ^^^ 1 < 16 := Nat.xor_lt_two_pow (n := 4) hd (by decide)
theorem td_fill {f s : Nat → Int32} {i : Nat} {x : Int32} (h : ∀ j, j < i → s j = f j) (hx : x = f i) : ∀ j, j < i + 1 → upd s i x j = f j := by
  intro j hj
  by_cases e : j = i
  · rw [e, pk_us, hx]
  · rw [pk_un e]
    exact h j (by omega)
end
section
/-! the pure picture: sets of choices are masks below 65536, rows a list of 16 masks -/
def td_un (I : Nat → Nat) (s : Nat) : Nat → Nat
  | 0 => 0
  | k + 1 => bif s.testBit k then td_un I s k ||| I k else td_un I s k
def td_cs (x : Nat) : Bool := (x &&& x / 2) &&& 21845 == 0
/-- possible -/
def td_pos (I : Nat → Nat) (s : Nat) : Bool := td_cs (td_un I s 16)
def td_dr (p : Nat) (cl : Nat → Nat → Bool) (c : Nat) : Nat → Nat
  | 0 => 0
  | d + 1 => bif p.testBit (d / 2) && (!(d / 2 == c / 2) && cl c d) then td_dr p cl c d ||| 2 ^ (d ^^^ 1) else td_dr p cl c d
/-- direct -/
def td_dir (p q w : Nat) (cl : Nat → Nat → Bool) (c : Nat) : Nat := bif q.testBit (c / 2) && (w.testBit (c / 2) != c.testBit 0) then td_dr p cl c 16 ||| 2 ^ (c ^^^ 1) else td_dr p cl c 16
def td_row (p q w : Nat) (cl : Nat → Nat → Bool) (c : Nat) : Nat := bif p.testBit (c / 2) then 2 ^ c ||| td_dir p q w cl c else 0
/-- one step of the closing, on a row -/
def td_s1 (m k r : Nat) : Nat := bif r.testBit m then r ||| k else r
def td_ws (m : Nat) (l : List Nat) : List Nat := l.map (td_s1 m (l.getD m 0))
def td_wl (l : List Nat) : Nat → List Nat
  | 0 => l
  | m + 1 => td_ws m (td_wl l m)
def td_L (p q w : Nat) (cl : Nat → Nat → Bool) : List Nat := td_wl ((List.range 16).map (td_row p q w cl)) 16
def td_at (l : List Nat) (j : Nat) : Nat := l.getD j 0
def td_I (p q w : Nat) (cl : Nat → Nat → Bool) : Nat → Nat := td_at (td_L p q w cl)
def td_pl (p : Nat) (I : Nat → Nat) : Nat → Nat
  | 0 => 0
  | j + 1 => bif p.testBit j then (bif td_pos I (td_pl p I j ||| 2 ^ (2 * j)) then td_pl p I j ||| 2 ^ (2 * j) else td_pl p I j ||| 2 ^ (2 * j + 1)) else td_pl p I j
def td_F (p q w : Nat) (cl : Nat → Nat → Bool) : Nat := td_pl p (td_I p q w cl) 8
def td_ok (p : Nat) (I : Nat → Nat) (j : Nat) : Bool := !(p.testBit j) || (td_pos I (2 ^ (2 * j)) || td_pos I (2 ^ (2 * j + 1)))
def td_sol (p : Nat) (I : Nat → Nat) : Bool := (List.range 8).all (td_ok p I)
def td_s2 (I : Nat → Nat) (s c : Nat) : Bool := !(s.testBit c) || (I c &&& (s ^^^ 4294967295)) == 0
/-- stands -/
def td_std (I : Nat → Nat) (s : Nat) : Bool := (List.range 16).all (td_s2 I s)
def td_fl (p : Nat) (I : Nat → Nat) (F : Nat) : Nat → Nat
  | 0 => 0
  | j + 1 => bif p.testBit j && td_std I (F ^^^ (3 * 2 ^ (2 * j))) then td_fl p I F j + 1 else td_fl p I F j
/-- forced, of a job that is there -/
def td_fo (I : Nat → Nat) (j : Nat) : Int32 := bif td_pos I (2 ^ (2 * j)) then (bif td_pos I (2 ^ (2 * j + 1)) then -1 else 0) else 1
/-- the rows that an array of chars holds -/
def td_T (I : Nat → Nat) (a : Nat → Int32) : Prop := ∀ j, j < 16 → a j = nI (I j) ∧ I j < 65536
theorem td_un_lt {I : Nat → Nat} (hI : ∀ j, j < 16 → I j < 65536) (s : Nat) : ∀ k, k ≤ 16 → td_un I s k < 65536 := by
  intro k
  induction k with
  | zero => intro _; exact Nat.zero_lt_succ _
  | succ k ih =>
    intro hk
    have h1 := ih (by omega)
    unfold td_un
    cases s.testBit k
    · exact h1
    · exact td_orlt h1 (hI k (by omega))
theorem td_dr_lt (p : Nat) (cl : Nat → Nat → Bool) (c : Nat) : ∀ k, k ≤ 16 → td_dr p cl c k < 65536 := by
  intro k
  induction k with
  | zero => intro _; exact Nat.zero_lt_succ _
  | succ k ih =>
    intro hk
    have h1 := ih (by omega)
    unfold td_dr
    cases p.testBit (k / 2) && (!(k / 2 == c / 2) && cl c k)
    · exact h1
    · exact td_orlt h1 (td_2lt (td_x1 (by omega)))
theorem td_dir_lt (p q w : Nat) (cl : Nat → Nat → Bool) {c : Nat} (hc : c < 16) : td_dir p q w cl c < 65536 := by
  have h1 := td_dr_lt p cl c 16 (by omega)
  unfold td_dir
  cases q.testBit (c / 2) && (w.testBit (c / 2) != c.testBit 0)
  · exact h1
  · exact td_orlt h1 (td_2lt (td_x1 hc))
theorem td_row_lt (p q w : Nat) (cl : Nat → Nat → Bool) {c : Nat} (hc : c < 16) : td_row p q w cl c < 65536 := by
  unfold td_row
  cases p.testBit (c / 2)
  · exact Nat.zero_lt_succ _
  · exact td_orlt (td_2lt hc) (td_dir_lt p q w cl hc)
theorem td_s1_self (m k : Nat) : td_s1 m k k = k := by
  unfold td_s1
  cases k.testBit m
  · rfl
  · exact Nat.or_self k
theorem td_s1_0 (m k : Nat) : td_s1 m k 0 = 0 := by
  unfold td_s1
  rw [Nat.zero_testBit]
  rfl
theorem td_s1_lt {m k r : Nat} (hk : k < 65536) (hr : r < 65536) : td_s1 m k r < 65536 := by
  unfold td_s1
  cases r.testBit m
  · exact hr
  · exact td_orlt hr hk
theorem td_ws_at (m : Nat) (l : List Nat) (j : Nat) : td_at (td_ws m l) j = td_s1 m (td_at l m) (td_at l j) := by
  unfold td_at td_ws
  rw [List.getD_eq_getElem?_getD, List.getD_eq_getElem?_getD (l := l) (i := j), List.getElem?_map]
  cases l[j]?
  · exact (td_s1_0 _ _).symm
  · rfl
theorem td_pl_lt (p : Nat) (I : Nat → Nat) : ∀ j, j ≤ 8 → td_pl p I j < 65536 := by
  intro j
  induction j with
  | zero => intro _; exact Nat.zero_lt_succ _
  | succ j ih =>
    intro hj
    have h1 := ih (by omega)
    have h2 : td_pl p I j ||| 2 ^ (2 * j) < 65536 := td_orlt h1 (td_2lt (by omega))
    have h3 : td_pl p I j ||| 2 ^ (2 * j + 1) < 65536 := td_orlt h1 (td_2lt (by omega))
    unfold td_pl
    cases p.testBit j
    · exact h1
    · cases td_pos I (td_pl p I j ||| 2 ^ (2 * j))
      · exact h3
      · exact h2
theorem td_fl_le (p : Nat) (I : Nat → Nat) (F : Nat) : ∀ j, td_fl p I F j ≤ j := by
  intro j
  induction j with
  | zero => exact Nat.le_refl 0
  | succ j ih =>
    unfold td_fl
    cases p.testBit j && td_std I (F ^^^ (3 * 2 ^ (2 * j)))
    · exact Nat.le_succ_of_le ih
    · exact Nat.succ_le_succ ih
end
section
/-! has, possible, direct, planFirst, learn -/
theorem td_has {post : Int32 → Prop} {p j : Nat} {f1 f2 f3 f4 x : Int32} {a1 a2 : Nat → Int32} (hp : p < 256) (hj : j < 8) (hx : x = nI j) (H : post (td_b (p.testBit j))) : wpX_has post (nI p, f1, f2, f3, f4, a1, a2) x := by
  subst hx
  refine br_f (nI_pos (by omega)) (pk_le 8 j (fun z => absurd z (by omega)) (fun _ => td_brx (p.testBit j) (td_bit (by omega) (by omega)) (fun e => ?_) (fun e => ?_)))
  · rw [e] at H; exact H
  · rw [e] at H; exact H
theorem td_cons {post : Int32 → Prop} {X : Nat} (hX : X < 65536) (H : post (td_b (td_cs X))) : wpX_consistent post () (nI X) := by
  have e : ((nI X &&& (nI X >>> ((1 : Int32) &&& 31))) &&& 21845) = nI ((X &&& X / 2) &&& 21845) := by
    rw [td_h1 (by omega), td_and]
    exact td_and _ 21845
  have hl : (X &&& X / 2) &&& 21845 ≤ 21845 := Nat.and_le_right
  unfold td_cs at H
  refine pk_eq ((X &&& X / 2) &&& 21845) 0 (fun z => ?_) (fun z => ?_) e rfl (by omega) (by omega)
  · rw [z] at H; exact H
  · rw [beq_false_of_ne z] at H; exact H
theorem td_possible {post : Int32 → Prop} {I : Nat → Nat} {s : Nat} {f0 f1 f2 f3 f4 x : Int32} {a1 a2 : Nat → Int32} (hI : td_T I a2) (hs : s < 65536) (hx : x = nI s) (H : post (td_b (td_pos I s))) : wpX_possible post (f0, f1, f2, f3, f4, a1, a2) x := by
  subst hx
  have hlt := td_un_lt (fun j hj => (hI j hj).2) s
  refine pk_loop (σ := Unit) (fun n i _ => wX_possible_4 post (nI s) f0 f1 f2 f3 f4 a1 a2 n (nI (td_un I s i)) (nI i)) (fun _ _ => True) 16 0 () (by omega) trivial ?_ ?_
  · intro n _ _
    exact pk_le 16 16 (fun _ => td_cons (hlt 16 (by omega)) ⟨td_nar _, H⟩) (fun z => absurd z (by omega))
  · intro n i _ hi _ hw
    have hw' : wX_possible_4 post (nI s) f0 f1 f2 f3 f4 a1 a2 n (nI (td_un I s (i + 1))) (nI (i + 1)) := hw () trivial
    refine pk_le 16 i (fun z => absurd z (by omega)) (fun _ => td_brx (s.testBit i) (td_bit (by omega) (by omega)) (fun e => ?_) (fun e => ?_))
    · have k : td_un I s (i + 1) = td_un I s i ||| I i := by
        show (bif s.testBit i then _ else _) = _
        rw [e]; rfl
      rw [k] at hw'
      refine ⟨pk_in i 16 hi, nm_r ?_ (nm_r (nI_1 i) hw')⟩
      rw [nI_clamp (by omega), (hI i hi).1, td_or]
    · have k : td_un I s (i + 1) = td_un I s i := by
        show (bif s.testBit i then _ else _) = _
        rw [e]; rfl
      rw [k] at hw'
      exact nm_r (nI_1 i) hw'
/-- the ways that an array of shorts holds collide as cl says, for jobs of p -/
def td_W (p : Nat) (a1 : Nat → Int32) (cl : Nat → Nat → Bool) : Prop := ∀ c d, c < 16 → d < 16 → p.testBit (c / 2) = true → p.testBit (d / 2) = true → c / 2 ≠ d / 2 → ∀ post : Int32 → Prop, post (td_b (cl c d)) → wpX_collide post () (a1 c) (a1 d)
theorem td_direct {post : Int32 → Prop} {p q w c : Nat} {cl : Nat → Nat → Bool} {f3 f4 x : Int32} {a1 a2 : Nat → Int32} (hp : p < 256) (hq : q < 256) (hw : w < 256) (hc : c < 16) (hpc : p.testBit (c / 2) = true) (hW : td_W p a1 cl) (hx : x = nI c) (H : post (nI (td_dir p q w cl c))) : wpX_direct post (nI p, nI q, nI w, f3, f4, a1, a2) x := by
  subst hx
  refine pk_loop (σ := Unit) (fun n i _ => wX_direct_4 post (nI c) (nI p) (nI q) (nI w) f3 f4 a1 a2 n (nI (td_dr p cl c i)) (nI i)) (fun _ _ => True) 16 0 () (by omega) trivial ?_ ?_
  · intro n _ _
    refine pk_le 16 16 (fun _ => nm_r (td_h1 (by omega)) (td_brx (q.testBit (c / 2)) (td_bit (by omega) (by omega)) (fun e => td_beq (w.testBit (c / 2)) (c.testBit 0) (td_bit (by omega) (by omega)) (td_low (by omega)) (fun z => ?_) (fun z => ?_)) (fun e => ?_))) (fun z => absurd z (by omega))
    · have k : td_dir p q w cl c = td_dr p cl c 16 := by
        unfold td_dir
        rw [e, z, bne_self_eq_false]; rfl
      rw [k] at H
      exact br_t rfl H
    · have k : td_dir p q w cl c = td_dr p cl c 16 ||| 2 ^ (c ^^^ 1) := by
        unfold td_dir
        rw [e, bne_iff_ne.mpr z]; rfl
      have hx1 := td_x1 hc
      rw [k, ← td_or, ← td_shl1 (by omega), ← td_xor] at H
      exact br_f (by decide) H
    · have k : td_dir p q w cl c = td_dr p cl c 16 := by
        unfold td_dir
        rw [e]; rfl
      rw [k] at H
      exact br_t rfl H
  · intro n i _ hi _ hw'
    have h1 : wX_direct_4 post (nI c) (nI p) (nI q) (nI w) f3 f4 a1 a2 n (nI (td_dr p cl c (i + 1))) (nI (i + 1)) := hw' () trivial
    have ht : (p.testBit (i / 2) && (!(i / 2 == c / 2) && cl c i)) = true → wX_direct_4 post (nI c) (nI p) (nI q) (nI w) f3 f4 a1 a2 n (nI (td_dr p cl c i ||| 2 ^ (i ^^^ 1))) (nI (i + 1)) := by
      intro e
      have k : td_dr p cl c (i + 1) = td_dr p cl c i ||| 2 ^ (i ^^^ 1) := by
        show (bif p.testBit (i / 2) && (!(i / 2 == c / 2) && cl c i) then _ else _) = _
        rw [e]; rfl
      rw [k] at h1
      exact h1
    have hf : (p.testBit (i / 2) && (!(i / 2 == c / 2) && cl c i)) = false → wX_direct_4 post (nI c) (nI p) (nI q) (nI w) f3 f4 a1 a2 n (nI (td_dr p cl c i)) (nI (i + 1)) := by
      intro e
      have k : td_dr p cl c (i + 1) = td_dr p cl c i := by
        show (bif p.testBit (i / 2) && (!(i / 2 == c / 2) && cl c i) then _ else _) = _
        rw [e]; rfl
      rw [k] at h1
      exact h1
    refine pk_le 16 i (fun z => absurd z (by omega)) (fun _ => td_has hp (j := i / 2) (by omega) (td_h1 (by omega)) (td_br (p.testBit (i / 2)) (fun e => ?_) (fun e => ?_)))
    · refine pk_eq (i / 2) (c / 2) (fun z => nm_r (nI_1 i) (hf ?_)) (fun z => ⟨pk_in c 16 hc, pk_in i 16 hi, ?_⟩) (td_h1 (by omega)) (td_h1 (by omega)) (by omega) (by omega)
      · rw [z]; simp
      · rw [nI_clamp (show c < 2 ^ 31 by omega), nI_clamp (show i < 2 ^ 31 by omega)]
        refine hW c i hc hi hpc e (fun y => z y.symm) _ (td_br (cl c i) (fun g => nm_r ?_ (nm_r (nI_1 i) (ht ?_))) (fun g => nm_r (nI_1 i) (hf ?_)))
        · have hx1 := td_x1 hi
          rw [← td_or, ← td_shl1 (by omega), ← td_xor]; rfl
        · rw [e, g, beq_false_of_ne z]; rfl
        · rw [g]; simp
    · exact nm_r (nI_1 i) (hf (by rw [e]; rfl))
theorem td_plan {post : St2 → Prop} {p : Nat} {I : Nat → Nat} {f1 f2 f3 f4 : Int32} {a1 a2 : Nat → Int32} (hp : p < 256) (hI : td_T I a2) (H : post (nI p, f1, f2, f3, nI (td_pl p I 8), a1, a2)) : wpX_planFirst post (nI p, f1, f2, f3, f4, a1, a2) := by
  have hlt := td_pl_lt p I
  refine pk_loop (σ := Unit) (fun n i _ => wX_planFirst_4 post (nI p) f1 f2 f3 f4 a1 a2 n (nI (td_pl p I i)) (nI i)) (fun _ _ => True) 8 0 () (by omega) trivial ?_ ?_
  · intro n _ _
    exact pk_le 8 8 (fun _ => H) (fun z => absurd z (by omega))
  · intro n i _ hi _ hw
    have h1 : wX_planFirst_4 post (nI p) f1 f2 f3 f4 a1 a2 n (nI (td_pl p I (i + 1))) (nI (i + 1)) := hw () trivial
    have e0 : td_pl p I (i + 1) = bif p.testBit i then (bif td_pos I (td_pl p I i ||| 2 ^ (2 * i)) then td_pl p I i ||| 2 ^ (2 * i) else td_pl p I i ||| 2 ^ (2 * i + 1)) else td_pl p I i := rfl
    rw [e0] at h1
    refine pk_le 8 i (fun z => absurd z (by omega)) (fun _ => td_has hp hi rfl (td_br (p.testBit i) (fun e => ?_) (fun e => ?_)))
    · rw [e, cond_true] at h1
      refine nm_r (e' := nI (td_pl p I i ||| 2 ^ (2 * i))) ?_ (td_possible hI (td_orlt (hlt i (by omega)) (td_2lt (by omega))) rfl (td_br _ (fun g => ?_) (fun g => ?_)))
      · rw [td_2, td_shl1 (by omega), td_or]
      · rw [g, cond_true] at h1
        exact nm_r (nI_1 i) h1
      · rw [g, cond_false] at h1
        refine nm_r ?_ (nm_r (nI_1 i) h1)
        rw [td_2, td_shl2 (by omega), td_or]
    · rw [e, cond_false] at h1
      exact nm_r (nI_1 i) h1
/-- the inner loop of the closing -/
theorem td_l67 {post : St2 → Prop} {J : Int32 → (Nat → Int32) → (Nat → Int32) → Prop} {f0 f1 f2 f3 f4 : Int32} {a1 a2 : Nat → Int32} {l : List Nat} {m : Nat} (hm : m < 16) (hT : td_T (td_at l) a2) (H : ∀ a, td_T (td_at (td_ws m l)) a → J (nI (m + 1)) a1 a) : ∃ n, wX_learn_67 post J (nI m) f0 f1 f2 f3 f4 n 0 a1 a2 := by
  refine pk_loop (fun n i s => wX_learn_67 post J (nI m) f0 f1 f2 f3 f4 n (nI i) a1 s) (fun i s => ∀ j, j < 16 → s j = nI (if j < i then td_s1 m (td_at l m) (td_at l j) else td_at l j)) 16 0 a2 (by omega) (fun j hj => by rw [if_neg (by omega)]; exact (hT j hj).1) ?_ ?_
  · intro n s h
    refine pk_le 16 16 (fun _ => nm_r (nI_1 m) (H s (fun j hj => ?_))) (fun z => absurd z (by omega))
    rw [td_ws_at]
    refine ⟨?_, td_s1_lt (hT m hm).2 (hT j hj).2⟩
    have := h j hj
    rw [if_pos hj] at this
    exact this
  · intro n i s hi h hw
    have ei : s i = nI (td_at l i) := by
      have := h i hi
      rw [if_neg (by omega)] at this
      exact this
    have em : s m = nI (td_at l m) := by
      have := h m hm
      rw [td_s1_self, ite_self] at this
      exact this
    refine pk_le 16 i (fun z => absurd z (by omega)) (fun _ => ⟨pk_in i 16 hi, ?_⟩)
    rw [nI_clamp (show i < 2 ^ 31 by omega), nI_clamp (show m < 2 ^ 31 by omega), ei, em]
    have li := (hT i hi).2
    have lm := (hT m hm).2
    refine td_brx ((td_at l i).testBit m) (td_bit (by omega) (by omega)) (fun e => ⟨pk_in i 16 hi, pk_in m 16 hm, pk_in i 16 hi, nm_e (nm_r (nI_1 i) (hw _ (fun j hj => ?_)))⟩) (fun e => nm_r (nI_1 i) (hw s (fun j hj => ?_)))
    · by_cases ej : j = i
      · rw [ej, pk_us, if_pos (by omega), td_or, td_ch (td_orlt li lm)]
        unfold td_s1
        rw [e]; rfl
      · rw [pk_un ej, h j hj]
        by_cases hl : j < i
        · rw [if_pos hl, if_pos (by omega)]
        · rw [if_neg hl, if_neg (by omega)]
    · by_cases ej : j = i
      · rw [ej, ei, if_pos (by omega)]
        unfold td_s1
        rw [e]; rfl
      · rw [h j hj]
        by_cases hl : j < i
        · rw [if_pos hl, if_pos (by omega)]
        · rw [if_neg hl, if_neg (by omega)]
theorem td_l59 {post : St2 → Prop} {p : Nat} {f1 f2 f3 f4 : Int32} {a1 a2 : Nat → Int32} {l : List Nat} (hp : p < 256) (hT : td_T (td_at l) a2) (H : ∀ a, td_T (td_at (td_wl l 16)) a → post (nI p, f1, f2, f3, nI (td_pl p (td_at (td_wl l 16)) 8), a1, a)) : ∃ n, wX_learn_59 post (nI p) f1 f2 f3 f4 n 0 a1 a2 := by
  refine pk_loop (fun n i s => wX_learn_59 post (nI p) f1 f2 f3 f4 n (nI i) a1 s) (fun i s => td_T (td_at (td_wl l i)) s) 16 0 a2 (by omega) hT ?_ ?_
  · intro n s h
    exact pk_le 16 16 (fun _ => td_plan hp h (H s h)) (fun z => absurd z (by omega))
  · intro n i s hi h hw
    exact pk_le 16 i (fun z => absurd z (by omega)) (fun _ => td_l67 hi h (fun a ha => hw a ha))
theorem td_learn {post : St2 → Prop} {p q w : Nat} {cl : Nat → Nat → Bool} {f4 : Int32} {a1 a2 : Nat → Int32} (hp : p < 256) (hq : q < 256) (hw : w < 256) (hW : td_W p a1 cl) (H : ∀ a, td_T (td_I p q w cl) a → post (nI p, nI q, nI w, 1, nI (td_F p q w cl), a1, a)) : wpX_learn post (nI p, nI q, nI w, 0, f4, a1, a2) := by
  refine br_t rfl (pk_loop (fun n i s => wX_learn_15 post (nI p) (nI q) (nI w) 1 f4 n (nI i) a1 s) (fun i s => ∀ j, j < i → s j = nI (td_row p q w cl j)) 16 0 a2 (by omega) (fun j hj => absurd hj (by omega)) ?_ ?_)
  · intro n s h
    refine pk_le 16 16 (fun _ => td_l59 (l := (List.range 16).map (td_row p q w cl)) hp (fun j hj => ?_) H) (fun z => absurd z (by omega))
    have e : td_at ((List.range 16).map (td_row p q w cl)) j = td_row p q w cl j := by
      unfold td_at
      rw [List.getD_eq_getElem?_getD, List.getElem?_map, List.getElem?_range hj]
      rfl
    rw [e]
    exact ⟨h j hj, td_row_lt p q w cl hj⟩
  · intro n i s hi h hw'
    refine pk_le 16 i (fun z => absurd z (by omega)) (fun _ => td_has hp (j := i / 2) (by omega) (td_h1 (by omega)) (td_br (p.testBit (i / 2)) (fun e => ?_) (fun e => ?_)))
    · refine td_direct hp hq hw hi e hW rfl ⟨pk_in i 16 hi, nm_e (nm_r (nI_1 i) (hw' _ ?_))⟩
      rw [nI_clamp (show i < 2 ^ 31 by omega)]
      refine td_fill (f := fun j => nI (td_row p q w cl j)) h ?_
      rw [td_shl1 (by omega), td_or, td_ch (td_orlt (td_2lt hi) (td_dir_lt p q w cl hi))]
      unfold td_row
      rw [e]; rfl
    · refine ⟨pk_in i 16 hi, nm_e (nm_r (nI_1 i) (hw' _ ?_))⟩
      rw [nI_clamp (show i < 2 ^ 31 by omega)]
      refine td_fill (f := fun j => nI (td_row p q w cl j)) h ?_
      unfold td_row
      rw [e]; exact td_ch (n := 0) (by omega)
end
section
/-! solvable, forced, planned, implies, flips, forcedJobs over a state that learns to a known picture -/
def td_R (p q w : Nat) (cl : Nat → Nat → Bool) (a1 : Nat → Int32) (u : St2) : Prop := ∀ post : St2 → Prop, (∀ a, td_T (td_I p q w cl) a → post (nI p, nI q, nI w, 1, nI (td_F p q w cl), a1, a)) → wpX_learn post u
theorem td_R0 {p q w : Nat} {cl : Nat → Nat → Bool} {f4 : Int32} {a1 a2 : Nat → Int32} (hp : p < 256) (hq : q < 256) (hw : w < 256) (hW : td_W p a1 cl) : td_R p q w cl a1 (nI p, nI q, nI w, 0, f4, a1, a2) := fun _ H => td_learn hp hq hw hW H
theorem td_R1 {p q w : Nat} {cl : Nat → Nat → Bool} {a1 a2 : Nat → Int32} (h : td_T (td_I p q w cl) a2) : td_R p q w cl a1 (nI p, nI q, nI w, 1, nI (td_F p q w cl), a1, a2) := fun _ H => br_f (by decide) (H a2 h)
theorem td_solv {post : Int32 → St2 → Prop} {p q w : Nat} {cl : Nat → Nat → Bool} {f0 f1 f2 f3 f4 : Int32} {a1 b1 b2 : Nat → Int32} (hp : p < 256) (hR : td_R p q w cl a1 (f0, f1, f2, f3, f4, b1, b2)) (H : ∀ a, td_T (td_I p q w cl) a → post (td_b (td_sol p (td_I p q w cl))) (nI p, nI q, nI w, 1, nI (td_F p q w cl), a1, a)) : wpX_solvable post (f0, f1, f2, f3, f4, b1, b2) := by
  refine hR _ (fun a h => ?_)
  have H := H a h
  generalize td_F p q w cl = F at H ⊢
  generalize td_I p q w cl = I at H h
  refine pk_loop (σ := Unit) (fun n i _ => wX_solvable_6 post (nI p) (nI q) (nI w) 1 (nI F) a1 a n (nI i)) (fun i _ => ∀ k, k < i → td_ok p I k = true) 8 0 () (by omega) (fun k hk => absurd hk (by omega)) ?_ ?_
  · intro n _ hk
    refine pk_le 8 8 (fun _ => ?_) (fun z => absurd z (by omega))
    have e : td_sol p I = true := List.all_eq_true.mpr (fun k hm => hk k (List.mem_range.mp hm))
    rw [e] at H
    exact H
  · intro n i _ hi hk hw
    have go : td_ok p I i = true → wX_solvable_6 post (nI p) (nI q) (nI w) 1 (nI F) a1 a n (nI (i + 1)) := fun e => hw () (lt_s hk e)
    refine pk_le 8 i (fun z => absurd z (by omega)) (fun _ => td_has hp hi rfl (td_br (p.testBit i) (fun e => ?_) (fun e => ?_)))
    · refine td_possible h (td_2lt (k := 2 * i) (by omega)) (by rw [td_2, td_shl1 (by omega)]) (td_br _ (fun g => nm_r (nI_1 i) (go ?_)) (fun g => ?_))
      · unfold td_ok
        rw [e, g]; rfl
      · refine td_possible h (td_2lt (k := 2 * i + 1) (by omega)) (by rw [td_2, td_shl2 (by omega)]) (td_br _ (fun g2 => nm_r (nI_1 i) (go ?_)) (fun g2 => ?_))
        · unfold td_ok
          rw [e, g, g2]; rfl
        · have e2 : td_ok p I i = false := by
            unfold td_ok
            rw [e, g, g2]; rfl
          have e3 : td_sol p I = false := List.all_eq_false.mpr ⟨i, List.mem_range.mpr hi, by rw [e2]; decide⟩
          rw [e3] at H
          exact H
    · refine nm_r (nI_1 i) (go ?_)
      unfold td_ok
      rw [e]; rfl
theorem td_forced {post : Int32 → St2 → Prop} {p q w j : Nat} {cl : Nat → Nat → Bool} {f1 f2 f3 f4 x : Int32} {a1 b1 b2 : Nat → Int32} (hp : p < 256) (hj : j < 8) (hx : x = nI j) (hb : p.testBit j = true) (hR : td_R p q w cl a1 (nI p, f1, f2, f3, f4, b1, b2)) (H : ∀ a, td_T (td_I p q w cl) a → post (td_fo (td_I p q w cl) j) (nI p, nI q, nI w, 1, nI (td_F p q w cl), a1, a)) : wpX_forced post (nI p, f1, f2, f3, f4, b1, b2) x := by
  subst hx
  unfold wpX_forced
  dsimp only
  refine td_has hp hj rfl (td_br (p.testBit j) (fun _ => hR _ (fun a h => ?_)) (fun e => absurd (hb.symm.trans e) (by decide)))
  have H := H a h
  generalize td_F p q w cl = F at H ⊢
  generalize td_I p q w cl = I at H h
  refine td_possible h (td_2lt (k := 2 * j) (by omega)) (by rw [td_2, td_shl1 (by omega)]) (td_br _ (fun g => ?_) (fun g => ?_))
  · refine td_possible h (td_2lt (k := 2 * j + 1) (by omega)) (by rw [td_2, td_shl2 (by omega)]) (td_br _ (fun g2 => ?_) (fun g2 => ?_))
    · unfold td_fo at H
      rw [g, g2] at H
      exact H
    · unfold td_fo at H
      rw [g, g2] at H
      exact H
  · unfold td_fo at H
    rw [g] at H
    exact H
theorem td_forcedN {post : Int32 → St2 → Prop} {p j : Nat} {f1 f2 f3 f4 x : Int32} {b1 b2 : Nat → Int32} (hp : p < 256) (hj : j < 8) (hx : x = nI j) (hb : p.testBit j = false) (H : post (-1) (nI p, f1, f2, f3, f4, b1, b2)) : wpX_forced post (nI p, f1, f2, f3, f4, b1, b2) x := by
  subst hx
  unfold wpX_forced
  dsimp only
  exact td_has hp hj rfl (td_br (p.testBit j) (fun e => absurd (hb.symm.trans e) (by decide)) (fun _ => H))
theorem td_planned {post : Int32 → St2 → Prop} {p q w j : Nat} {cl : Nat → Nat → Bool} {f1 f2 f3 f4 x : Int32} {a1 b1 b2 : Nat → Int32} (hp : p < 256) (hj : j < 8) (hx : x = nI j) (hb : p.testBit j = true) (hR : td_R p q w cl a1 (nI p, f1, f2, f3, f4, b1, b2)) (H : ∀ a, td_T (td_I p q w cl) a → post (td_b ((td_F p q w cl).testBit (2 * j + 1))) (nI p, nI q, nI w, 1, nI (td_F p q w cl), a1, a)) : wpX_planned post (nI p, f1, f2, f3, f4, b1, b2) x := by
  subst hx
  unfold wpX_planned
  dsimp only
  refine td_has hp hj rfl (td_br (p.testBit j) (fun _ => hR _ (fun a h => ?_)) (fun e => absurd (hb.symm.trans e) (by decide)))
  have H := H a h
  have hF : td_F p q w cl < 65536 := td_pl_lt _ _ 8 (by omega)
  generalize td_F p q w cl = F at H hF ⊢
  rw [← td_bit (by omega) (by omega), ← nI_1, ← td_2] at H
  exact H
theorem td_plannedN {post : Int32 → St2 → Prop} {p j : Nat} {f1 f2 f3 f4 x : Int32} {b1 b2 : Nat → Int32} (hp : p < 256) (hj : j < 8) (hx : x = nI j) (hb : p.testBit j = false) (H : post (-1) (nI p, f1, f2, f3, f4, b1, b2)) : wpX_planned post (nI p, f1, f2, f3, f4, b1, b2) x := by
  subst hx
  unfold wpX_planned
  dsimp only
  exact td_has hp hj rfl (td_br (p.testBit j) (fun e => absurd (hb.symm.trans e) (by decide)) (fun _ => H))
theorem td_isn {post : Int32 → Prop} {k : Nat} {x : Int32} (hk : k < 2) (hx : x = nI k) (H : post 1) : wpX_isWayNumber post () x := by
  subst hx
  refine pk_eq k 0 (fun _ => H) (fun z => pk_eq k 1 (fun _ => H) (fun z2 => absurd hk (by omega)))
theorem td_implies {post : Int32 → St2 → Prop} {p q w : Nat} (j k i m : Nat) {cl : Nat → Nat → Bool} {f1 f2 f3 f4 x0 x1 x2 x3 : Int32} {a1 b1 b2 : Nat → Int32} (hp : p < 256) (hj : j < 8) (hk : k < 2) (hi : i < 8) (hm : m < 2) (hx0 : x0 = nI j) (hx1 : x1 = nI k) (hx2 : x2 = nI i) (hx3 : x3 = nI m) (hb : p.testBit j = true) (hb2 : p.testBit i = true) (hR : td_R p q w cl a1 (nI p, f1, f2, f3, f4, b1, b2)) (H : ∀ a, td_T (td_I p q w cl) a → post (td_b (!td_pos (td_I p q w cl) (2 ^ (2 * j + k) ||| 2 ^ (2 * i + 1 - m)))) (nI p, nI q, nI w, 1, nI (td_F p q w cl), a1, a)) : wpX_implies post (nI p, f1, f2, f3, f4, b1, b2) x0 x1 x2 x3 := by
  subst hx0 hx1 hx2 hx3
  unfold wpX_implies
  dsimp only
  refine td_has hp hj rfl (td_br (p.testBit j) (fun _ => ?_) (fun e => absurd (hb.symm.trans e) (by decide)))
  refine td_has hp hi rfl (td_br (p.testBit i) (fun _ => ?_) (fun e => absurd (hb2.symm.trans e) (by decide)))
  refine td_isn hk rfl (br_f (by decide) (td_isn hm rfl (br_f (by decide) (hR _ (fun a h => ?_)))))
  have H := H a h
  generalize td_F p q w cl = F at H ⊢
  generalize td_I p q w cl = I at H h
  refine td_possible h (s := 2 ^ (2 * j + k) ||| 2 ^ (2 * i + 1 - m)) (td_orlt (td_2lt (by omega)) (td_2lt (by omega))) ?_ (td_br _ (fun g => ?_) (fun g => ?_))
  · rw [td_2, td_2, nI_add, nI_1, pk_sub (by omega), td_shl1 (by omega), td_shl1 (by omega), td_or]
  · rw [g] at H
    exact H
  · rw [g] at H
    exact H
theorem td_stands {post : Int32 → Prop} {I : Nat → Nat} {s : Nat} {f0 f1 f2 f3 f4 x : Int32} {a1 a2 : Nat → Int32} (hI : td_T I a2) (hs : s < 65536) (hx : x = nI s) (H : post (td_b (td_std I s))) : wpX_stands post (f0, f1, f2, f3, f4, a1, a2) x := by
  subst hx
  refine pk_loop (σ := Unit) (fun n i _ => wX_stands_2 post (nI s) f0 f1 f2 f3 f4 a1 a2 n (nI i)) (fun i _ => ∀ k, k < i → td_s2 I s k = true) 16 0 () (by omega) (fun k hk => absurd hk (by omega)) ?_ ?_
  · intro n _ hk
    refine pk_le 16 16 (fun _ => ?_) (fun z => absurd z (by omega))
    have e : td_std I s = true := List.all_eq_true.mpr (fun k hm => hk k (List.mem_range.mp hm))
    rw [e] at H
    exact H
  · intro n i _ hi hk hw
    have go : td_s2 I s i = true → wX_stands_2 post (nI s) f0 f1 f2 f3 f4 a1 a2 n (nI (i + 1)) := fun e => hw () (lt_s hk e)
    refine pk_le 16 i (fun z => absurd z (by omega)) (fun _ => td_brx (s.testBit i) (td_bit (by omega) (by omega)) (fun e => ⟨pk_in i 16 hi, ?_⟩) (fun e => nm_r (nI_1 i) (go ?_)))
    · have ee : a2 (nI i).toNatClampNeg &&& (nI s ^^^ (-1)) = nI (I i &&& (s ^^^ 4294967295)) := by
        rw [nI_clamp (by omega), (hI i hi).1, show (-1 : Int32) = nI 4294967295 from by decide +kernel, td_xor, td_and]
      have hl : I i &&& (s ^^^ 4294967295) ≤ I i := Nat.and_le_left
      have hl2 := (hI i hi).2
      refine pk_eq (I i &&& (s ^^^ 4294967295)) 0 (fun z => nm_r (nI_1 i) (go ?_)) (fun z => ?_) ee rfl (by omega) (by omega)
      · unfold td_s2
        rw [e, z]; rfl
      · have e2 : td_s2 I s i = false := by
          unfold td_s2
          rw [e, beq_false_of_ne z]; rfl
        have e3 : td_std I s = false := List.all_eq_false.mpr ⟨i, List.mem_range.mpr hi, by rw [e2]; decide⟩
        rw [e3] at H
        exact H
    · unfold td_s2
      rw [e]; rfl
theorem td_flips {post : Int32 → St2 → Prop} {p q w : Nat} {cl : Nat → Nat → Bool} {f0 f1 f2 f3 f4 : Int32} {a1 b1 b2 : Nat → Int32} (hp : p < 256) (hR : td_R p q w cl a1 (f0, f1, f2, f3, f4, b1, b2)) (H : ∀ a, td_T (td_I p q w cl) a → post (nI (td_fl p (td_I p q w cl) (td_F p q w cl) 8)) (nI p, nI q, nI w, 1, nI (td_F p q w cl), a1, a)) : wpX_flips post (f0, f1, f2, f3, f4, b1, b2) := by
  refine hR _ (fun a h => ?_)
  have H := H a h
  have hF : td_F p q w cl < 65536 := td_pl_lt _ _ 8 (by omega)
  generalize td_F p q w cl = F at H hF ⊢
  generalize td_I p q w cl = I at H h
  refine pk_loop (σ := Unit) (fun n i _ => wX_flips_8 post (nI p) (nI q) (nI w) 1 (nI F) a1 a n (nI (td_fl p I F i)) (nI i)) (fun _ _ => True) 8 0 () (by omega) trivial ?_ ?_
  · intro n _ _
    exact pk_le 8 8 (fun _ => H) (fun z => absurd z (by omega))
  · intro n i _ hi _ hw
    have h1 : wX_flips_8 post (nI p) (nI q) (nI w) 1 (nI F) a1 a n (nI (td_fl p I F (i + 1))) (nI (i + 1)) := hw () trivial
    have e0 : td_fl p I F (i + 1) = bif p.testBit i && td_std I (F ^^^ (3 * 2 ^ (2 * i))) then td_fl p I F i + 1 else td_fl p I F i := rfl
    rw [e0] at h1
    have h3 : 3 * 2 ^ (2 * i) < 65536 := (by decide : ∀ i, i < 8 → 3 * 2 ^ (2 * i) < 65536) i hi
    refine pk_le 8 i (fun z => absurd z (by omega)) (fun _ => td_has hp hi rfl (td_br (p.testBit i) (fun e => ?_) (fun e => ?_)))
    · rw [e, Bool.true_and] at h1
      refine nm_r (e' := nI (F ^^^ (3 * 2 ^ (2 * i)))) ?_ (td_stands h (Nat.xor_lt_two_pow (n := 16) hF h3) rfl (td_br _ (fun g => ?_) (fun g => ?_)))
      · rw [td_2, td_shl3 (by omega), td_xor]
      · rw [g, cond_true] at h1
        exact nm_r (nI_1 _) (nm_r (nI_1 i) h1)
      · rw [g, cond_false] at h1
        exact nm_r (nI_add _ 0) (nm_r (nI_1 i) h1)
    · rw [e, Bool.false_and, cond_false] at h1
      exact nm_r (nI_1 i) h1
/-- no job is forced -/
theorem td_fjobs {post : Int32 → St2 → Prop} {p q w : Nat} {cl : Nat → Nat → Bool} {a1 a2 : Nat → Int32} (hp : p < 256) (h : td_T (td_I p q w cl) a2) (hf : ∀ j, j < 8 → p.testBit j = true → td_fo (td_I p q w cl) j = -1) (H : ∀ a, td_T (td_I p q w cl) a → post 0 (nI p, nI q, nI w, 1, nI (td_F p q w cl), a1, a)) : wpX_forcedJobs post (nI p, nI q, nI w, 1, nI (td_F p q w cl), a1, a2) := by
  refine pk_loop (fun n i s => wX_forcedJobs_4 post n 0 (nI i) (nI p) (nI q) (nI w) 1 (nI (td_F p q w cl)) a1 s) (fun _ s => td_T (td_I p q w cl) s) 8 0 a2 (by omega) h ?_ ?_
  · intro n s h
    exact pk_le 8 8 (fun _ => H s h) (fun z => absurd z (by omega))
  · intro n i s hi h hw
    refine pk_le 8 i (fun z => absurd z (by omega)) (fun _ => ?_)
    cases e : p.testBit i
    · exact td_forcedN hp hi rfl e (br_t rfl (nm_r (nI_1 i) (hw s h)))
    · refine td_forced hp hi rfl e (td_R1 h) (fun a ha => ?_)
      rw [hf i hi e]
      exact br_t rfl (nm_r (nI_1 i) (hw a ha))
end
section
/-! ways: 384 + 4 v + k is on machine k from v on, of length 3 -/
theorem td_mach {s k : Nat} (hs : s < 18) (hk : k < 2) : nI (384 + 4 * s + k) &&& 3 = nI k := by
  rw [pk_andN (m := 3) (by omega) 2 (by decide)]
  exact congrArg nI (by omega)
theorem td_len {s k : Nat} (hs : s < 18) (hk : k < 2) : nI (384 + 4 * s + k) >>> ((7 : Int32) &&& 31) = nI 3 := by
  rw [show (7 : Int32) = nI 7 from rfl, td_shr (by omega) (by omega)]
  exact congrArg nI (by omega)
theorem td_start {s k : Nat} (hs : s < 18) (hk : k < 2) : (nI (384 + 4 * s + k) >>> ((2 : Int32) &&& 31)) &&& 31 = nI s := by
  rw [show (2 : Int32) = nI 2 from rfl, td_shr (by omega) (by omega), pk_andN (m := 31) (by omega) 5 (by decide)]
  exact congrArg nI (by omega)
theorem td_short {n : Nat} (h : n < 32768) : (nI n).toInt16.toInt32 = nI n := by
  apply Int32.toInt_inj.mp
  rw [Int16.toInt_toInt32, Int32.toInt_toInt16, nI_toInt (by omega)]
  exact Int.bmod_eq_of_le (by omega) (by omega)
theorem td_isWay {post : Int32 → Prop} {s k : Nat} {x : Int32} (hs : s < 18) (hk : k < 2) (hx : x = nI (384 + 4 * s + k)) (H : post 1) : wpX_isWay post () x := by
  subst hx
  refine br_f (nI_pos (by omega)) (pk_lt 4095 (384 + 4 * s + k) (fun z => absurd z (by omega)) (fun _ => ?_))
  refine pk_le k 2 (fun _ => ?_) (fun z => absurd z (by omega)) (td_mach hs hk)
  refine pk_lt 3 1 (fun z => absurd z (by omega)) (fun _ => ?_) (td_len hs hk)
  refine pk_lt 20 (s + 3) (fun z => absurd z (by omega)) (fun _ => H) rfl ?_
  rw [td_start hs hk, td_len hs hk, nI_add]
/-- meet -/
def td_m (s t : Nat) : Bool := decide (s < t + 3) && decide (t < s + 3)
theorem td_m_comm (s t : Nat) : td_m s t = td_m t s := Bool.and_comm _ _
theorem td_collide {post : Int32 → Prop} {s t k l : Nat} {x y : Int32} (hs : s < 18) (ht : t < 18) (hk : k < 2) (hl : l < 2) (hx : x = nI (384 + 4 * s + k)) (hy : y = nI (384 + 4 * t + l)) (H : post (td_b ((k == l) && td_m s t))) : wpX_collide post () x y := by
  subst hx hy
  unfold td_m at H
  refine pk_eq k l (fun z => ?_) (fun z => ?_) (td_mach hs hk) (td_mach ht hl)
  · rw [z, beq_self_eq_true, Bool.true_and] at H
    refine pk_le (t + 3) s (fun g => ?_) (fun g => pk_le (s + 3) t (fun g2 => ?_) (fun g2 => ?_) (by rw [td_start hs hk, td_len hs hk, nI_add]) (td_start ht hl)) (by rw [td_start ht hl, td_len ht hl, nI_add]) (td_start hs hk)
    · rw [decide_eq_false (show ¬ s < t + 3 by omega)] at H
      exact H
    · rw [decide_eq_false (show ¬ t < s + 3 by omega), Bool.and_false] at H
      exact H
    · rw [decide_eq_true (show t < s + 3 by omega), decide_eq_true (show s < t + 3 by omega)] at H
      exact H
  · rw [beq_false_of_ne z] at H
    exact H
theorem td_meet {post : Int32 → Prop} {s t : Nat} {x y : Int32} (hs : s < 18) (ht : t < 18) (hx : x = nI s) (hy : y = nI t) (H : post (td_b (td_m s t))) : wpL_meet post () x y := by
  subst hx hy
  unfold td_m at H
  refine pk_le (t + 3) s (fun g => ?_) (fun g => pk_le (s + 3) t (fun g2 => ?_) (fun g2 => ?_) (nI_add s 3) rfl) (nI_add t 3) rfl
  · rw [decide_eq_false (show ¬ s < t + 3 by omega)] at H
    exact H
  · rw [decide_eq_false (show ¬ t < s + 3 by omega), Bool.and_false] at H
    exact H
  · rw [decide_eq_true (show t < s + 3 by omega), decide_eq_true (show s < t + 3 by omega)] at H
    exact H
/-- the table of collisions of three jobs -/
def td_mm (st su tu : Bool) (a b : Nat) : Bool := bif a + b == 1 then st else bif a + b == 2 then su else tu
def td_cl (st su tu : Bool) (c d : Nat) : Bool := (c % 2 == d % 2) && td_mm st su tu (c / 2) (d / 2)
/-- what the array of shorts holds for the jobs of p -/
def td_V (p : Nat) (v : Nat → Nat) (a1 : Nat → Int32) : Prop := ∀ c, c < 16 → p.testBit (c / 2) = true → a1 c = nI (384 + 4 * v (c / 2) + c % 2)
theorem td_V_mono {p p' : Nat} {v : Nat → Nat} {a1 : Nat → Int32} (h : td_V p v a1) (hp : ∀ i, i < 8 → p'.testBit i = true → p.testBit i = true) : td_V p' v a1 := fun c hc hb => h c hc (hp _ (by omega) hb)
theorem td_VW {p : Nat} {v : Nat → Nat} {a1 : Nat → Int32} (h : td_V p v a1) (hv : ∀ i, v i < 18) (hp : ∀ i, i < 8 → p.testBit i = true → i < 3) : td_W p a1 (td_cl (td_m (v 0) (v 1)) (td_m (v 0) (v 2)) (td_m (v 1) (v 2))) := by
  intro c d hc hd hcb hdb hne post H
  rw [h c hc hcb, h d hd hdb]
  refine td_collide (hv _) (hv _) (Nat.mod_lt _ (by decide)) (Nat.mod_lt _ (by decide)) rfl rfl ?_
  have hc3 := hp _ (by omega) hcb
  have hd3 := hp _ (by omega) hdb
  unfold td_cl at H
  generalize c / 2 = a at *
  generalize d / 2 = b at *
  have e : td_mm (td_m (v 0) (v 1)) (td_m (v 0) (v 2)) (td_m (v 1) (v 2)) a b = td_m (v a) (v b) := by
    have ha : a = 0 ∨ a = 1 ∨ a = 2 := by omega
    have hb : b = 0 ∨ b = 1 ∨ b = 2 := by omega
    rcases ha with rfl | rfl | rfl <;> rcases hb with rfl | rfl | rfl
    · exact absurd rfl hne
    · rfl
    · rfl
    · exact td_m_comm _ _
    · exact absurd rfl hne
    · rfl
    · exact td_m_comm _ _
    · exact td_m_comm _ _
    · exact absurd rfl hne
  rw [e] at H
  exact H
theorem td_place {post : St2 → Prop} {p p' q q' j : Nat} {v : Nat → Nat} {w k f x y z : Int32} {a1 a2 : Nat → Int32} (hj : j < 8) (hv : v j < 18) (hV : td_V p v a1) (hz : z = nI j) (hx : x = nI (384 + 4 * v j + 0)) (hy : y = nI (384 + 4 * v j + 1)) (h1 : nI p ||| ((1 : Int32) <<< (nI j &&& 31)) = nI p') (h2 : nI q &&& (((1 : Int32) <<< (nI j &&& 31)) ^^^ (-1)) = nI q') (hp : ∀ i, i < 8 → i ≠ j → p'.testBit i = true → p.testBit i = true) (H : ∀ b1, td_V p' v b1 → post (nI p', nI q', w, 0, f, b1, a2)) : wpX_place post (nI p, nI q, w, k, f, a1, a2) z x y := by
  subst hz hx hy
  have e2 : (2 : Int32) * nI j = nI (2 * j) := td_2 j
  have e3 : (2 : Int32) * nI j + 1 = nI (2 * j + 1) := by rw [e2, nI_1]
  refine nm_r h1 (nm_r h2 ⟨pk_in (2 * j) 16 (by omega) e2, nm_e ⟨pk_in (2 * j + 1) 16 (by omega) e3, nm_e (H _ ?_)⟩⟩)
  rw [e3, e2, nI_clamp (by omega), nI_clamp (by omega), td_short (by omega), td_short (by omega)]
  intro c hc hb
  by_cases c1 : c = 2 * j + 1
  · rw [c1, pk_us, show (2 * j + 1) / 2 = j by omega, show (2 * j + 1) % 2 = 1 by omega]
  · rw [pk_un c1]
    by_cases c2 : c = 2 * j
    · rw [c2, pk_us, show (2 * j) / 2 = j by omega, show (2 * j) % 2 = 0 by omega]
    · rw [pk_un c2]
      exact hV c hc (hp _ (by omega) (by omega) hb)
/-- probe at the first free job j -/
theorem td_probe {post : Int32 → St2 → Prop} {p p' w j : Nat} {v : Nat → Nat} {k f x y : Int32} {a1 a2 : Nat → Int32} (hp : p < 256) (hp' : p' < 256) (hw : w < 256) (hj : j < 8) (hv : ∀ i, v i < 18) (hV : td_V p v a1) (hx : x = nI (384 + 4 * v j + 0)) (hy : y = nI (384 + 4 * v j + 1))
    (hb : ∀ i, i < j → p.testBit i = true) (hbj : p.testBit j = false)
    (h1 : nI p ||| ((1 : Int32) <<< (nI j &&& 31)) = nI p') (h2 : nI 0 &&& (((1 : Int32) <<< (nI j &&& 31)) ^^^ (-1)) = nI 0) (h3 : nI p' &&& (((1 : Int32) <<< (nI j &&& 31)) ^^^ (-1)) = nI p)
    (hpp : ∀ i, i < 8 → i ≠ j → p'.testBit i = true → p.testBit i = true) (hp3 : ∀ i, i < 8 → p'.testBit i = true → i < 3)
    (H : ∀ b1 b2 g, td_V p' v b1 → post (bif td_sol p' (td_I p' 0 w (td_cl (td_m (v 0) (v 1)) (td_m (v 0) (v 2)) (td_m (v 1) (v 2)))) then nI j else -3) (nI p, nI 0, nI w, 0, g, b1, b2)) : wpX_probe post (nI p, nI 0, nI w, k, f, a1, a2) x y := by
  unfold wpX_probe
  dsimp only
  refine td_isWay (hv j) (by omega) hx (br_f (by decide) (td_isWay (hv j) (by omega) hy (br_f (by decide) ?_)))
  refine pk_loop (σ := Unit) (fun n i _ => wX_probe_18 post x y (nI p) (nI 0) (nI w) k f a1 a2 n (nI i)) (fun _ _ => True) j 0 () (by omega) trivial ?_ ?_
  · intro n _ _
    refine pk_le 8 j (fun z => absurd z (by omega)) (fun _ => td_has hp hj rfl (td_br (p.testBit j) (fun e => absurd (hbj.symm.trans e) (by decide)) (fun _ => ?_)))
    refine td_place hj (hv j) hV rfl hx hy h1 h2 hpp (fun b1 hV' => ?_)
    refine td_solv hp' (td_R0 hp' (by omega) hw (td_VW hV' hv hp3)) (fun a _ => nm_r h3 ?_)
    have H := H b1 a (nI (td_F p' 0 w (td_cl (td_m (v 0) (v 1)) (td_m (v 0) (v 2)) (td_m (v 1) (v 2))))) hV'
    refine td_br _ (fun e => ?_) (fun e => ?_)
    · rw [e] at H; exact H
    · rw [e] at H; exact H
  · intro n i _ hi _ hw'
    refine pk_le 8 i (fun z => absurd z (by omega)) (fun _ => td_has hp (by omega) rfl (td_br (p.testBit i) (fun _ => nm_r (nI_1 i) (hw' () trivial)) (fun e => absurd ((hb i hi).symm.trans e) (by decide))))
/-- offer: the probe answered j, or refused -/
theorem td_offer {post : Int32 → St2 → Prop} {p p' w j : Nat} {v : Nat → Nat} {k f x y : Int32} {a1 a2 : Nat → Int32} (hp : p < 256) (hp' : p' < 256) (hw : w < 256) (hj : j < 8) (hv : ∀ i, v i < 18) (hV : td_V p v a1) (hx : x = nI (384 + 4 * v j + 0)) (hy : y = nI (384 + 4 * v j + 1))
    (hb : ∀ i, i < j → p.testBit i = true) (hbj : p.testBit j = false)
    (h1 : nI p ||| ((1 : Int32) <<< (nI j &&& 31)) = nI p') (h2 : nI 0 &&& (((1 : Int32) <<< (nI j &&& 31)) ^^^ (-1)) = nI 0) (h3 : nI p' &&& (((1 : Int32) <<< (nI j &&& 31)) ^^^ (-1)) = nI p)
    (hpp : ∀ i, i < 8 → i ≠ j → p'.testBit i = true → p.testBit i = true) (hp3 : ∀ i, i < 8 → p'.testBit i = true → i < 3)
    (Ht : td_sol p' (td_I p' 0 w (td_cl (td_m (v 0) (v 1)) (td_m (v 0) (v 2)) (td_m (v 1) (v 2)))) = true → ∀ b1 b2 g, td_V p' v b1 → post (nI j) (nI p', nI 0, nI w, 0, g, b1, b2))
    (Hf : td_sol p' (td_I p' 0 w (td_cl (td_m (v 0) (v 1)) (td_m (v 0) (v 2)) (td_m (v 1) (v 2)))) = false → ∀ b1 b2 g, td_V p v b1 → post (-3) (nI p, nI 0, nI w, 0, g, b1, b2)) : wpX_offer post (nI p, nI 0, nI w, k, f, a1, a2) x y := by
  have hm : ∀ i, i < 8 → p.testBit i = true → p'.testBit i = true := by
    intro i hi hpi
    have e : p' = p ||| 2 ^ j := by
      rw [td_shl1 (by omega), td_or] at h1
      have hl : p ||| 2 ^ j < 65536 := td_orlt (by omega) (td_2lt (by omega))
      exact ((nI_eq (by omega) (by omega)).mp h1).symm
    rw [e, Nat.testBit_or, hpi]; rfl
  unfold wpX_offer
  dsimp only
  refine td_probe hp hp' hw hj hv hV hx hy hb hbj h1 h2 h3 hpp hp3 (fun b1 b2 g hV' => ?_)
  cases e : td_sol p' (td_I p' 0 w (td_cl (td_m (v 0) (v 1)) (td_m (v 0) (v 2)) (td_m (v 1) (v 2))))
  · exact br_t (show (-3 : Int32) < 0 by decide) (Hf e b1 b2 g (td_V_mono hV' hm))
  · refine br_f (nI_pos (by omega)) ?_
    exact td_place hj (hv j) (td_V_mono hV' hm) rfl hx hy h1 h2 hpp (fun c1 hc => Ht e c1 b2 g hc)
end
section
/-! the pure facts, for the eight tables of collisions -/
def td_P (st su tu : Bool) : Nat := bif st && su && tu then 3 else 7
theorem td_e1 : ∀ st su tu : Bool, td_sol 1 (td_I 1 0 0 (td_cl st su tu)) = true := by decide +kernel
theorem td_e3 : ∀ st su tu : Bool, td_sol 3 (td_I 3 0 0 (td_cl st su tu)) = true := by decide +kernel
theorem td_e7 : ∀ st su tu : Bool, td_sol 7 (td_I 7 0 0 (td_cl st su tu)) = !(st && su && tu) := by decide +kernel
theorem td_a0 : ∀ st su tu : Bool, (td_F (td_P st su tu) 0 0 (td_cl st su tu)).testBit (2 * 0 + 1) = false := by decide +kernel
theorem td_a1 : ∀ st su tu : Bool, (td_F (td_P st su tu) 0 0 (td_cl st su tu)).testBit (2 * 1 + 1) = st := by decide +kernel
theorem td_a2 : ∀ st su tu : Bool, (!td_pos (td_I (td_P st su tu) 0 0 (td_cl st su tu)) (2 ^ (2 * 0 + 0) ||| 2 ^ (2 * 1 + 1 - 1))) = st := by decide +kernel
theorem td_a3 : ∀ st su tu : Bool, (!td_pos (td_I (td_P st su tu) 0 0 (td_cl st su tu)) (2 ^ (2 * 1 + 0) ||| 2 ^ (2 * 0 + 1 - 1))) = st := by decide +kernel
theorem td_a4 : ∀ st su tu : Bool, (!td_pos (td_I (td_P st su tu) 0 0 (td_cl st su tu)) (2 ^ (2 * 0 + 0) ||| 2 ^ (2 * 0 + 1 - 1))) = false := by decide +kernel
theorem td_a5 : ∀ st su tu : Bool, ∀ j, j < 8 → (td_P st su tu).testBit j = true → td_fo (td_I (td_P st su tu) 0 0 (td_cl st su tu)) j = -1 := by decide +kernel
theorem td_a6 : td_fl 3 (td_I 3 0 0 (td_cl true true true)) (td_F 3 0 0 (td_cl true true true)) 8 = 0 := by decide +kernel
def td_fi (st su tu : Bool) : Bool := bif su then true else (bif tu then !st else false)
theorem td_c0 : ∀ st su tu : Bool, (st && su && tu) = false → (td_F 7 0 0 (td_cl st su tu)).testBit (2 * 2 + 1) = td_fi st su tu := by decide +kernel
theorem td_c1 : ∀ st su tu : Bool, (st && su && tu) = false → (!td_pos (td_I 7 0 0 (td_cl st su tu)) (2 ^ (2 * 0 + 1) ||| 2 ^ (2 * 2 + 1 - 0))) = su := by decide +kernel
theorem td_c2 : ∀ st su tu : Bool, (st && su && tu) = false → (!td_pos (td_I 7 0 0 (td_cl st su tu)) (2 ^ (2 * 2 + 1) ||| 2 ^ (2 * 0 + 1 - 0))) = su := by decide +kernel
theorem td_p0 : ∀ st su tu : Bool, (st && su && tu) = false → td_sol 7 (td_I 7 1 1 (td_cl st su tu)) = true := by decide +kernel
theorem td_p1 : ∀ st su tu : Bool, (st && su && tu) = false → td_fo (td_I 7 1 1 (td_cl st su tu)) 0 = 1 := by decide +kernel
theorem td_p2 : ∀ st su tu : Bool, (st && su && tu) = false → td_fo (td_I 7 1 1 (td_cl st su tu)) 1 = bif st then 0 else (bif su && tu then 1 else -1) := by decide +kernel
theorem td_p3 : ∀ st su tu : Bool, (st && su && tu) = false → (td_F 7 1 1 (td_cl st su tu)).testBit (2 * 0 + 1) = true := by decide +kernel
theorem td_w0 : ∀ st su tu : Bool, td_fo (td_I 5 0 1 (td_cl st su tu)) 0 = -1 := by decide +kernel
theorem td_w1 : ∀ st su tu : Bool, (td_F 5 0 1 (td_cl st su tu)).testBit (2 * 2 + 1) = su := by decide +kernel
theorem td_w2 : ∀ st su tu : Bool, td_fl 5 (td_I 5 0 1 (td_cl st su tu)) (td_F 5 0 1 (td_cl st su tu)) 8 = bif su then 0 else 2 := by decide +kernel
end
section
/-! the walk over the law, from its end -/
theorem td_W_mono {p p' : Nat} {a1 : Nat → Int32} {cl : Nat → Nat → Bool} (h : td_W p a1 cl) (hp : ∀ i, i < 8 → p'.testBit i = true → p.testBit i = true) : td_W p' a1 cl := fun c d hc hd hcb hdb => h c d hc hd (hp _ (by omega) hcb) (hp _ (by omega) hdb)
theorem td_75 : ∀ i, i < 8 → Nat.testBit 5 i = true → Nat.testBit 7 i = true := by decide
theorem td_516 {post : Int32 → St0 → Prop} {mc ms kc ks : Nat} {st su tu : Bool} {f : Int32} {a1 a2 : Nat → Int32} (hW : td_W 7 a1 (td_cl st su tu)) (H : post 1 ()) : wL_lawOf_516 post mc ms (td_b su) 1 kc ks (nI 7) (nI 1) (nI 1) 1 f a1 a2 := by
  unfold wL_lawOf_516 wpX_unpin
  dsimp only
  refine td_has (j := 0) (by omega) (by omega) rfl (br_f (by decide +kernel) (br_f (by decide +kernel) (nm_r (e' := nI 0) (by decide +kernel) ?_)))
  unfold wpX_withdraw
  dsimp only
  refine td_has (j := 1) (by omega) (by omega) rfl (br_f (by decide +kernel) (nm_r (e' := nI 5) (by decide +kernel) (nm_r (e' := nI 0) (by decide +kernel) ?_)))
  refine br_f (by decide) (br_f (by decide) (br_f (by decide) ?_))
  refine td_forced (q := 0) (w := 1) (j := 0) (by omega) (by omega) rfl rfl (td_R0 (by omega) (by omega) (by omega) (td_W_mono hW td_75)) (fun b hb => ?_)
  rw [td_w0 st su tu]
  refine br_t rfl ?_
  refine td_planned (j := 2) (by omega) (by omega) rfl rfl (td_R1 hb) (fun b hb => ?_)
  rw [td_w1 st su tu]
  have e := td_w2 st su tu
  cases su
  · refine br_t rfl (br_t rfl ?_)
    refine td_flips (by omega) (td_R1 hb) (fun b hb => ?_)
    rw [e]
    exact br_t rfl (br_t rfl H)
  · refine br_f (by decide) (br_t rfl ?_)
    refine td_flips (by omega) (td_R1 hb) (fun b hb => ?_)
    rw [e]
    exact br_f (by decide) (br_t rfl H)
theorem td_499 {post : Int32 → St0 → Prop} {mc ms kc ks : Nat} {st su tu : Bool} {z : Int32} {a1 a2 : Nat → Int32} (hn : (st && su && tu) = false) (hW : td_W 7 a1 (td_cl st su tu)) (hb : td_T (td_I 7 1 1 (td_cl st su tu)) a2) (H : post 1 ()) : wL_lawOf_499 post mc ms (td_b su) z z kc ks (nI 7) (nI 1) (nI 1) 1 (nI (td_F 7 1 1 (td_cl st su tu))) a1 a2 := by
  refine br_t rfl ?_
  refine td_planned (j := 0) (by omega) (by omega) rfl rfl (td_R1 hb) (fun b hb => ?_)
  rw [td_p3 st su tu hn]
  exact br_t rfl (td_516 hW H)
theorem td_440 {post : Int32 → St0 → Prop} {mc ms kc ks : Nat} {st su tu : Bool} {k f : Int32} {a1 a2 : Nat → Int32} (hn : (st && su && tu) = false) (hW : td_W 7 a1 (td_cl st su tu)) (H : post 1 ()) : wL_lawOf_440 post mc ms (td_b st) (td_b su) (td_b tu) 1 kc ks (nI 7) (nI 0) (nI 0) k f a1 a2 := by
  unfold wL_lawOf_440 wpX_pin
  dsimp only
  refine td_has (j := 0) (by omega) (by omega) rfl (br_f (by decide +kernel) ?_)
  refine td_isn (k := 1) (by omega) rfl (br_f (by decide) (nm_r (e' := nI 1) (by decide +kernel) (br_t rfl ?_)))
  rw [show nI 0 ||| ((1 : Int32) <<< ((0 : Int32) &&& 31)) = nI 1 from by decide +kernel]
  unfold wX_pin_67
  refine td_solv (p := 7) (q := 1) (w := 1) (by omega) (td_R0 (by omega) (by omega) (by omega) hW) (fun b hb => ?_)
  rw [td_p0 st su tu hn]
  refine br_f (by decide) (br_f (by decide) (br_t rfl ?_))
  refine td_forced (j := 0) (by omega) (by omega) rfl rfl (td_R1 hb) (fun b hb => ?_)
  rw [td_p1 st su tu hn]
  refine br_t rfl ?_
  refine td_forced (j := 1) (by omega) (by omega) rfl rfl (td_R1 hb) (fun b hb => ?_)
  rw [td_p2 st su tu hn]
  cases st
  · refine br_t rfl ?_
    cases su
    · exact br_t rfl (td_499 hn hW hb H)
    · refine br_f (by decide) ?_
      cases tu
      · exact br_t rfl (td_499 hn hW hb H)
      · exact br_f (by decide) (td_499 hn hW hb H)
  · exact br_f (by decide) (td_499 hn hW hb H)
theorem td_392 {post : Int32 → St0 → Prop} {mc ms kc ks : Nat} {st su tu : Bool} {a1 a2 : Nat → Int32} (hn : (st && su && tu) = false) (hW : td_W 7 a1 (td_cl st su tu)) (hb : td_T (td_I 7 0 0 (td_cl st su tu)) a2) (H : post 1 ()) : wL_lawOf_392 post mc ms (td_b st) (td_b su) (td_b tu) 1 (td_b (td_fi st su tu)) kc ks (nI 7) (nI 0) (nI 0) 1 (nI (td_F 7 0 0 (td_cl st su tu))) a1 a2 := by
  refine br_f (by decide) ?_
  refine td_planned (j := 2) (by omega) (by omega) rfl rfl (td_R1 hb) (fun b hb => ?_)
  rw [td_c0 st su tu hn]
  refine br_t rfl ?_
  refine td_implies 0 1 2 0 (by omega) (by omega) (by omega) (by omega) (by omega) rfl rfl rfl rfl rfl rfl (td_R1 hb) (fun b hb => ?_)
  rw [td_c1 st su tu hn]
  refine br_t rfl ?_
  refine td_implies 2 1 0 0 (by omega) (by omega) (by omega) (by omega) (by omega) rfl rfl rfl rfl rfl rfl (td_R1 hb) (fun b hb => ?_)
  rw [td_c2 st su tu hn]
  exact br_t rfl (td_440 hn hW H)
theorem td_322 {post : Int32 → St0 → Prop} {mc ms kc ks : Nat} {st su tu : Bool} {a1 a2 : Nat → Int32} (hn : (st && su && tu) = false) (hW : td_W 7 a1 (td_cl st su tu)) (hb : td_T (td_I 7 0 0 (td_cl st su tu)) a2) (H : post 1 ()) : wL_lawOf_322 post mc ms (td_b st) (td_b su) (td_b tu) 0 1 kc ks (nI 7) (nI 0) (nI 0) 1 (nI (td_F 7 0 0 (td_cl st su tu))) a1 a2 := by
  have k := td_392 (mc := mc) (ms := ms) (kc := kc) (ks := ks) hn hW hb H
  refine br_t rfl ?_
  cases su
  · refine br_t rfl ?_
    cases tu
    · exact br_t rfl k
    · refine br_f (by decide) ?_
      cases st
      · exact br_t rfl k
      · exact br_f (by decide) k
  · exact br_f (by decide) k
theorem td_322f {post : Int32 → St0 → Prop} {mc ms kc ks : Nat} {a1 a2 : Nat → Int32} (hb : td_T (td_I 3 0 0 (td_cl true true true)) a2) (H : post 1 ()) : wL_lawOf_322 post mc ms 1 1 1 1 1 kc ks (nI 3) (nI 0) (nI 0) 1 (nI (td_F 3 0 0 (td_cl true true true))) a1 a2 := by
  refine br_f (by decide) (br_f (by decide) ?_)
  refine td_plannedN (j := 2) (by omega) (by omega) rfl rfl ?_
  refine br_t rfl (br_t rfl ?_)
  refine td_flips (by omega) (td_R1 hb) (fun b hb => ?_)
  rw [td_a6]
  exact br_t rfl H
theorem td_Plt : ∀ st su tu : Bool, td_P st su tu < 256 := by decide
theorem td_Pb0 : ∀ st su tu : Bool, (td_P st su tu).testBit 0 = true := by decide
theorem td_Pb1 : ∀ st su tu : Bool, (td_P st su tu).testBit 1 = true := by decide
theorem td_270 {post : Int32 → St0 → Prop} {mc ms kc ks : Nat} {st su tu : Bool} {z : Int32} {a1 a2 : Nat → Int32} (hW : td_W (td_P st su tu) a1 (td_cl st su tu)) (hb : td_T (td_I (td_P st su tu) 0 0 (td_cl st su tu)) a2) (H : post 1 ()) : wL_lawOf_270 post mc ms (td_b st) (td_b su) (td_b tu) (td_b (st && su && tu)) z z kc ks (nI (td_P st su tu)) (nI 0) (nI 0) 1 (nI (td_F (td_P st su tu) 0 0 (td_cl st su tu))) a1 a2 := by
  have h0 := td_Plt st su tu
  have h1 := td_Pb0 st su tu
  have h2 := td_Pb1 st su tu
  refine br_t rfl ?_
  refine td_implies 0 0 1 1 h0 (by omega) (by omega) (by omega) (by omega) rfl rfl rfl rfl h1 h2 (td_R1 hb) (fun b hb => ?_)
  rw [td_a2 st su tu]
  refine br_t rfl ?_
  refine td_implies 1 0 0 1 h0 (by omega) (by omega) (by omega) (by omega) rfl rfl rfl rfl h2 h1 (td_R1 hb) (fun b hb => ?_)
  rw [td_a3 st su tu]
  refine br_t rfl ?_
  refine td_implies 0 0 0 1 h0 (by omega) (by omega) (by omega) (by omega) rfl rfl rfl rfl h1 h1 (td_R1 hb) (fun b hb => ?_)
  rw [td_a4 st su tu]
  refine br_t rfl ?_
  refine td_fjobs h0 hb (td_a5 st su tu) (fun b hb => ?_)
  refine br_t rfl ?_
  cases e : st && su && tu
  · have eP : td_P st su tu = 7 := by unfold td_P; rw [e]; rfl
    rw [eP] at hW hb ⊢
    exact td_322 e hW hb H
  · cases st
    · exact absurd e (by simp)
    · cases su
      · exact absurd e (by simp)
      · cases tu
        · exact absurd e (by simp)
        · exact td_322f hb H
theorem td_244 {post : Int32 → St0 → Prop} {mc ms kc ks : Nat} {st su tu : Bool} {z f : Int32} {a1 a2 : Nat → Int32} (hW : td_W (td_P st su tu) a1 (td_cl st su tu)) (H : post 1 ()) : wL_lawOf_244 post mc ms (td_b st) (td_b su) (td_b tu) (td_b (st && su && tu)) z z kc ks (nI (td_P st su tu)) (nI 0) (nI 0) 0 f a1 a2 := by
  have h0 := td_Plt st su tu
  have h1 := td_Pb0 st su tu
  have h2 := td_Pb1 st su tu
  refine br_t rfl ?_
  refine td_planned (j := 0) h0 (by omega) rfl h1 (td_R0 h0 (by omega) (by omega) hW) (fun b hb => ?_)
  rw [td_a0 st su tu]
  refine br_t rfl ?_
  refine td_planned (j := 1) h0 (by omega) rfl h2 (td_R1 hb) (fun b hb => ?_)
  rw [td_a1 st su tu]
  have k := fun z => td_270 (mc := mc) (ms := ms) (kc := kc) (ks := ks) (z := z) hW hb H
  cases st
  · exact br_t rfl (k 0)
  · exact br_f (by decide) (k 1)
end
section
/-! the law's head, and what is owed -/
theorem td_x (s : Nat) : (4 : Int32) * nI s + 384 = nI (384 + 4 * s + 0) := by
  rw [show (4 : Int32) = nI 4 from rfl, show (384 : Int32) = nI 384 from rfl, pk_mul, nI_add]
  exact congrArg nI (by omega)
theorem td_y (s : Nat) : (1 + (4 : Int32) * nI s) + 384 = nI (384 + 4 * s + 1) := by
  rw [show (4 : Int32) = nI 4 from rfl, show (384 : Int32) = nI 384 from rfl, show (1 : Int32) = nI 1 from rfl, pk_mul, nI_add, nI_add]
  exact congrArg nI (by omega)
theorem td_mod (x : Int32) : ∃ s, s < 18 ∧ (x &&& 65535) - (x &&& 65535) / 18 * 18 = nI s := by
  obtain ⟨j, hj, e⟩ := pk_andE x (m := 65535) 16 (by decide)
  rw [e]
  exact ⟨j % 18, Nat.mod_lt _ (by decide), pk_rem (d := 18) (by omega) (by omega) (by omega)⟩
theorem td_q1 : ∀ i, i < 8 → i ≠ 0 → Nat.testBit 1 i = true → Nat.testBit 0 i = true := by decide
theorem td_q3 : ∀ i, i < 8 → i ≠ 1 → Nat.testBit 3 i = true → Nat.testBit 1 i = true := by decide
theorem td_q7 : ∀ i, i < 8 → i ≠ 2 → Nat.testBit 7 i = true → Nat.testBit 3 i = true := by decide
theorem td_t1 : ∀ i, i < 8 → Nat.testBit 1 i = true → i < 3 := by decide
theorem td_t3 : ∀ i, i < 8 → Nat.testBit 3 i = true → i < 3 := by decide
theorem td_t7 : ∀ i, i < 8 → Nat.testBit 7 i = true → i < 3 := by decide
theorem td_s73 : ∀ i, i < 8 → Nat.testBit 3 i = true → Nat.testBit 7 i = true := by decide
theorem td_b1 : ∀ i, i < 1 → Nat.testBit 1 i = true := by decide
theorem td_b3 : ∀ i, i < 2 → Nat.testBit 3 i = true := by decide
theorem td_158 {post : Int32 → St0 → Prop} {mc ms kc ks : Nat} {v : Nat → Nat} {f : Int32} {a1 a2 : Nat → Int32} (hv : ∀ i, v i < 18) (hV : td_V 3 v a1) (H : post 1 ()) : wL_lawOf_158 post mc ms (nI (v 2)) 0 1 1 (td_b (td_m (v 0) (v 1))) (td_b (td_m (v 0) (v 2))) (td_b (td_m (v 1) (v 2))) (td_b (td_m (v 0) (v 1) && td_m (v 0) (v 2) && td_m (v 1) (v 2))) kc ks (nI 3) (nI 0) (nI 0) 0 f a1 a2 := by
  unfold wL_lawOf_158
  refine td_probe (p := 3) (p' := 7) (w := 0) (j := 2) (by omega) (by omega) (by omega) (by omega) hv hV (td_x _) (td_y _) td_b3 rfl (by decide +kernel) (by decide +kernel) (by decide +kernel) td_q7 td_t7 (fun b1 b2 g hV' => ?_)
  refine td_offer (p := 3) (p' := 7) (w := 0) (j := 2) (by omega) (by omega) (by omega) (by omega) hv (td_V_mono hV' td_s73) (td_x _) (td_y _) td_b3 rfl (by decide +kernel) (by decide +kernel) (by decide +kernel) td_q7 td_t7 (fun e c1 c2 g' hV2 => ?_) (fun e c1 c2 g' hV2 => ?_)
  · rw [e]
    have hW := td_VW hV2 hv td_t7
    rw [td_e7] at e
    have e' : (td_m (v 0) (v 1) && td_m (v 0) (v 2) && td_m (v 1) (v 2)) = false := by
      rw [Bool.not_eq_true'] at e
      exact e
    refine br_f (by decide) (br_t rfl (br_t rfl (br_t rfl (td_br _ (fun g2 => absurd (e'.symm.trans g2) (by decide)) (fun _ => ?_)))))
    have eP : td_P (td_m (v 0) (v 1)) (td_m (v 0) (v 2)) (td_m (v 1) (v 2)) = 7 := by unfold td_P; rw [e']; rfl
    rw [← eP] at hW ⊢
    exact td_244 hW H
  · rw [e]
    have hW := td_VW hV2 hv td_t3
    rw [td_e7] at e
    have e' : (td_m (v 0) (v 1) && td_m (v 0) (v 2) && td_m (v 1) (v 2)) = true := by
      rw [Bool.not_eq_false'] at e
      exact e
    refine br_f (by decide) (br_t rfl (br_t rfl (br_t rfl (td_br _ (fun _ => ?_) (fun g2 => absurd (e'.symm.trans g2) (by decide))))))
    have eP : td_P (td_m (v 0) (v 1)) (td_m (v 0) (v 2)) (td_m (v 1) (v 2)) = 3 := by unfold td_P; rw [e']; rfl
    rw [← eP] at hW ⊢
    exact td_244 hW H
theorem td_109 {post : Int32 → St0 → Prop} {mc ms kc ks : Nat} {v : Nat → Nat} {f : Int32} {a1 a2 : Nat → Int32} (hv : ∀ i, v i < 18) (hV : td_V 3 v a1) (H : post 1 ()) : wL_lawOf_109 post mc ms (nI (v 0)) (nI (v 1)) (nI (v 2)) 0 1 1 kc ks (nI 3) (nI 0) (nI 0) 0 f a1 a2 := by
  have k := td_158 (mc := mc) (ms := ms) (kc := kc) (ks := ks) (f := f) (a2 := a2) hv hV H
  unfold wL_lawOf_109
  refine td_meet (hv _) (hv _) rfl rfl (td_meet (hv _) (hv _) rfl rfl (td_meet (hv _) (hv _) rfl rfl ?_))
  generalize td_m (v 0) (v 1) = st at k ⊢
  generalize td_m (v 0) (v 2) = su at k ⊢
  generalize td_m (v 1) (v 2) = tu at k ⊢
  cases st
  · exact br_t rfl k
  · refine br_f (by decide) ?_
    cases su
    · exact br_t rfl k
    · refine br_f (by decide) ?_
      cases tu
      · exact br_t rfl k
      · exact br_f (by decide) k
theorem td_lawOf {post : Int32 → St0 → Prop} {v : Nat → Nat} {x y z : Int32} (hv : ∀ i, v i < 18) (hx : (x &&& 65535) - (x &&& 65535) / 18 * 18 = nI (v 0)) (hy : (y &&& 65535) - (y &&& 65535) / 18 * 18 = nI (v 1)) (hz : (z &&& 65535) - (z &&& 65535) / 18 * 18 = nI (v 2)) (H : post 1 ()) : wpL_lawOf post 18 272 () x y z := by
  have l0 := hv 0
  have l1 := hv 1
  have l2 := hv 2
  refine ⟨by omega, by omega, 2, 32, by omega, by omega, by omega, by omega, by omega, by omega, ⟨by decide, nm_r hx ⟨by decide, nm_r hy ⟨by decide, nm_r hz ?_⟩⟩⟩⟩
  refine td_offer (p := 0) (p' := 1) (w := 0) (j := 0) (by omega) (by omega) (by omega) (by omega) hv (fun c _ hb => absurd hb (by rw [Nat.zero_testBit]; decide)) (td_x _) (td_y _) (fun i hi => absurd hi (by omega)) rfl (by decide +kernel) (by decide +kernel) (by decide +kernel) td_q1 td_t1 (fun e b1 b2 g hV => ?_) (fun e => absurd ((td_e1 _ _ _).symm.trans e) (by decide))
  refine td_offer (p := 1) (p' := 3) (w := 0) (j := 1) (by omega) (by omega) (by omega) (by omega) hv hV (td_x _) (td_y _) td_b1 rfl (by decide +kernel) (by decide +kernel) (by decide +kernel) td_q3 td_t3 (fun e b1 b2 g hV => ?_) (fun e => absurd ((td_e3 _ _ _).symm.trans e) (by decide))
  refine pk_lt 17 (v 0) (fun z => absurd z (by omega)) (fun _ => pk_lt 17 (v 1) (fun z => absurd z (by omega)) (fun _ => pk_lt 17 (v 2) (fun z => absurd z (by omega)) (fun _ => ?_)))
  exact td_109 hv hV H
theorem td_cell {post : Int32 → Prop} {L : Nat} {xs : Nat → Int32} (i : Nat) {x : Int32} (hL : L ≤ 3) (hi : i < 3) (hx : x = nI i) (H : ∀ r, post r) : wpL_cellAt post L xs () x := by
  subst hx
  exact pk_le L i (fun _ => H 0) (fun z => ⟨pk_in i L z, H _⟩)
theorem i_vc (xs : Nat → Int32) (L : Nat) (hL : L ≤ 3) : wpL_law (fun r => r = 1) L xs := by
  unfold wpL_law
  refine td_cell 0 hL (by omega) rfl (fun x => ?_)
  refine td_cell 1 hL (by omega) rfl (fun y => ?_)
  refine td_cell 2 hL (by omega) rfl (fun z => ?_)
  obtain ⟨s, hs, es⟩ := td_mod x
  obtain ⟨t, ht, et⟩ := td_mod y
  obtain ⟨u, hu, eu⟩ := td_mod z
  refine ⟨18, 272, by omega, by omega, ?_⟩
  exact td_lawOf (v := fun i => if i = 0 then s else if i = 1 then t else u) (fun i => by split; exact hs; split; exact ht; exact hu) es et eu rfl
end
