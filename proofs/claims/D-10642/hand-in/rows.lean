section
section
variable {nc co so pl ce hd sc : Int32} {ac : Int64} {a1 a2 a3 a4 a5 a6 a7 a8 a9 a10 a11 : Nat → Int32}
/-- the array of zeros -/
abbrev qd_z : Nat → Int32 := fun _ => 0
theorem qd_same {f : Nat → Int32} {k : Nat} {x : Int32} (h : x = f k) : upd f k x = f := by
  funext j
  by_cases e : j = k
  · rw [e, pk_us, h]
  · rw [pk_un e]
theorem qd_z0 (k : Nat) : upd qd_z k 0 = qd_z := qd_same rfl
theorem qd_restart {post : St2 → Prop} (hp : post (nc, co, so, pl, ce, hd, ac, 0, a1, a2, a3, a4, a5, a6, a7, a8, a9, a10, qd_z)) : wpX_restart post (nc, co, so, pl, ce, hd, ac, sc, a1, a2, a3, a4, a5, a6, a7, a8, a9, a10, qd_z) :=
  pk_loop (σ := Unit) (fun n i _ => wX_restart_2 post nc co so pl ce hd ac sc n (nI i) a1 a2 a3 a4 a5 a6 a7 a8 a9 a10 qd_z) (fun _ _ => True) 42 0 () (by omega) trivial
    (fun n _ _ => pk_le 42 42 (fun _ => hp) (fun z => absurd z (by omega)))
    (fun n i _ hi _ hw => pk_le 42 i (fun z => absurd z (by omega)) (fun _ => ⟨pk_in i 42 hi, nm_r (qd_z0 _) (nm_r (nI_1 i) (hw () trivial))⟩))
/-- write, explicit -/
theorem qd_write {post : St2 → Prop} {op c n : Int32} {m : Nat} (hm : m < 300)
    (hp : post (nc, co, so, pl, nI (m + 1), -1, ac, sc, a1, a2, a3, a4, a5, a6, a7, upd a8 m op.toInt8.toInt32, upd a9 m n, upd a10 m c.toInt8.toInt32, a11)) :
    wpX_write post (nc, co, so, pl, nI m, hd, ac, sc, a1, a2, a3, a4, a5, a6, a7, a8, a9, a10, a11) op c n := by
  have e : (nI m).toNatClampNeg = m := nI_clamp (by omega)
  have h : vp_in (nI m) 300 := pk_in m 300 hm
  unfold wpX_write
  dsimp only
  rw [e]
  exact ⟨h, nm_e ⟨h, nm_e ⟨h, nm_e (nm_r (nI_1 m) hp)⟩⟩⟩
/-- good code: every instruction below m names a cell below 41, and loads no number but 0 -/
def qd_G (m : Nat) (a8 a9 a10 : Nat → Int32) : Prop := ∀ i, i < m → (∃ c : Nat, c < 41 ∧ a10 i = nI c) ∧ (a8 i = 1 → a9 i = 0)
theorem qd_G0 : qd_G 0 a8 a9 a10 := fun i h => absurd h (by omega)
theorem qd_G1 {m c : Nat} {op n v : Int32} (h : qd_G m a8 a9 a10) (hc : c < 41) (hv : v = nI c) (hn : op = 1 → n = 0) : qd_G (m + 1) (upd a8 m op) (upd a9 m n) (upd a10 m v) := by
  intro i hi
  by_cases e : i = m
  · rw [e, pk_us, pk_us, pk_us]
    exact ⟨⟨c, hc, hv⟩, hn⟩
  · rw [pk_un e, pk_un e, pk_un e]
    exact h i (by omega)
theorem qd_b8 : ∀ c, c < 41 → (nI c).toInt8.toInt32 = nI c := by decide +kernel
/-- what is owed behind good code: any good code of at most b instructions -/
def qd_K (post : St2 → Prop) (b : Nat) (nc co so pl : Int32) (ac : Int64) (sc : Int32) (a1 a2 a3 a4 a5 a6 a7 a11 : Nat → Int32) : Prop :=
  ∀ (m : Nat) (hd : Int32) (a8 a9 a10 : Nat → Int32), m ≤ b → qd_G m a8 a9 a10 → post (nc, co, so, pl, nI m, hd, ac, sc, a1, a2, a3, a4, a5, a6, a7, a8, a9, a10, a11)
theorem qd_Kle {post : St2 → Prop} {b b' : Nat} (h : b' ≤ b) (hK : qd_K post b nc co so pl ac sc a1 a2 a3 a4 a5 a6 a7 a11) : qd_K post b' nc co so pl ac sc a1 a2 a3 a4 a5 a6 a7 a11 :=
  fun m hd a8 a9 a10 hm hG => hK m hd a8 a9 a10 (Nat.le_trans hm h) hG
theorem qd_gwrite {post : St2 → Prop} {op n : Int32} {m b c : Nat} (hm : m ≤ b) (hb : b < 300) (hG : qd_G m a8 a9 a10) (hc : c < 41) (hn : op.toInt8.toInt32 = 1 → n = 0)
    (hK : ∀ (a8 a9 a10 : Nat → Int32), qd_G (m + 1) a8 a9 a10 → post (nc, co, so, pl, nI (m + 1), -1, ac, sc, a1, a2, a3, a4, a5, a6, a7, a8, a9, a10, a11)) :
    wpX_write post (nc, co, so, pl, nI m, hd, ac, sc, a1, a2, a3, a4, a5, a6, a7, a8, a9, a10, a11) op (nI c) n :=
  qd_write (by omega) (hK _ _ _ (qd_G1 hG hc (qd_b8 c hc) hn))
theorem qd_gw {post : St2 → Prop} {op n : Int32} {m b c : Nat} (hm : m ≤ b) (hb : b < 300) (hG : qd_G m a8 a9 a10) (hc : c < 41) (hn : op.toInt8.toInt32 = 1 → n = 0)
    (hK : qd_K post (b + 1) nc co so pl ac sc a1 a2 a3 a4 a5 a6 a7 a11) : wpX_write post (nc, co, so, pl, nI m, hd, ac, sc, a1, a2, a3, a4, a5, a6, a7, a8, a9, a10, a11) op (nI c) n :=
  qd_gwrite hm hb hG hc hn (fun _ _ _ h => hK (m + 1) _ _ _ _ (by omega) h)
theorem qd_gload {post : St2 → Prop} {m b c : Nat} (hm : m ≤ b) (hb : b < 300) (hG : qd_G m a8 a9 a10) (hc : c < 41)
    (hK : qd_K post (b + 1) nc co so pl ac sc a1 a2 a3 a4 a5 a6 a7 a11) : wpX_load post (nc, co, so, pl, nI m, hd, ac, sc, a1, a2, a3, a4, a5, a6, a7, a8, a9, a10, a11) (nI c) := by
  unfold wpX_load
  dsimp only
  exact br_c (fun _ => hK m _ _ _ _ (by omega) hG) (fun _ => qd_gw hm hb hG hc (by decide) (fun m' hd' b8 b9 b10 h1 h2 => hK m' hd' b8 b9 b10 h1 h2))
theorem qd_gstore {post : St2 → Prop} {m b c : Nat} (hm : m ≤ b) (hb : b < 300) (hG : qd_G m a8 a9 a10) (hc : c < 41)
    (hK : qd_K post (b + 1) nc co so pl ac sc a1 a2 a3 a4 a5 a6 a7 a11) : wpX_store post (nc, co, so, pl, nI m, hd, ac, sc, a1, a2, a3, a4, a5, a6, a7, a8, a9, a10, a11) (nI c) := by
  unfold wpX_store
  dsimp only
  exact qd_gw hm hb hG hc (by decide) (fun m' hd' b8 b9 b10 h1 h2 => hK m' (nI c) b8 b9 b10 h1 h2)
theorem qd_gcopy {post : St2 → Prop} {m b c d : Nat} (hm : m ≤ b) (hb : b + 1 < 300) (hG : qd_G m a8 a9 a10) (hc : c < 41) (hdd : d < 41)
    (hK : qd_K post (b + 2) nc co so pl ac sc a1 a2 a3 a4 a5 a6 a7 a11) : wpX_copy post (nc, co, so, pl, nI m, hd, ac, sc, a1, a2, a3, a4, a5, a6, a7, a8, a9, a10, a11) (nI c) (nI d) := by
  unfold wpX_copy
  dsimp only
  exact qd_gload hm (by omega) hG hc (fun m' hd' b8 b9 b10 h1 h2 => qd_gstore h1 hb h2 hdd (fun m'' hd'' c8 c9 c10 h3 h4 => hK m'' hd'' c8 c9 c10 h3 h4))
/-- cellFor: a small name gives a small cell -/
theorem qd_cellFor {post : Int32 → Prop} {x : Int32} {j : Nat} (hx : x = nI j) (hj : j < 20) (hp : ∀ c : Nat, c < 41 → post (nI c)) : wpX_cellFor post (nc, co, so, pl, ce, hd, ac, sc, a1, a2, a3, a4, a5, a6, a7, a8, a9, a10, a11) x := by
  subst hx
  unfold wpX_cellFor
  dsimp only
  exact br_c (fun _ => hp 40 (by omega)) (fun _ => hp j (by omega))
theorem qd_cellAny {post : Int32 → Prop} {x : Int32} (hp : ∀ c, post c) : wpX_cellFor post (nc, co, so, pl, ce, hd, ac, sc, a1, a2, a3, a4, a5, a6, a7, a8, a9, a10, a11) x := by
  unfold wpX_cellFor
  dsimp only
  exact br_c (fun _ => hp _) (fun _ => hp _)
end
end
section
section
variable {nc co so pl ce hd sc : Int32} {ac : Int64} {a1 a2 a3 a4 a5 a6 a7 a8 a9 a10 a11 : Nat → Int32}
theorem qd_spec0 {post : St2 → Prop} {op n : Int32} (hp : post (nc, co, so, pl, ce, hd, 0, sc, a1, a2, a3, a4, a5, a6, a7, a8, a9, a10, a11)) : wpX_performSpecial post (nc, co, so, pl, ce, hd, 0, sc, a1, a2, a3, a4, a5, a6, a7, a8, a9, a10, a11) op 0 n := by
  unfold wpX_performSpecial
  dsimp only
  refine br_c (fun _ => br_t (by decide) hp) (fun _ => br_c (fun _ => nm_r (show -(0 : Int64) = 0 from by decide) hp) (fun _ => br_c (fun _ => br_t (by decide) hp) (fun _ => br_c (fun _ => nm_r ?_ hp) (fun _ => br_c (fun _ => nm_r ?_ hp) (fun _ => nm_r (by decide) hp)))))
  · exact Int64.zero_shiftLeft
  · exact Int64.zero_shiftRight
theorem qd_sat0 {post : Int64 → Prop} (hp : post 0) : wpX_saturated post (nc, co, so, pl, ce, hd, ac, sc, a1, a2, a3, a4, a5, a6, a7, a8, a9, a10, a11) 0 := by
  unfold wpX_saturated
  dsimp only
  exact br_t (by decide) (br_t (by decide) hp)
/-- a good instruction over zeros changes nothing -/
theorem qd_perf0 {post : St2 → Prop} {i c : Nat} (hi : i < 300) (hc : c < 41) (h10 : a10 i = nI c) (h9 : a8 i = 1 → a9 i = 0) (h11 : a11 c = 0) (hp : post (nc, co, so, pl, ce, hd, 0, sc, a1, a2, a3, a4, a5, a6, a7, a8, a9, a10, a11)) :
    wpX_perform post (nc, co, so, pl, ce, hd, 0, sc, a1, a2, a3, a4, a5, a6, a7, a8, a9, a10, a11) (nI i) := by
  have e : (nI i).toNatClampNeg = i := nI_clamp (by omega)
  have e2 : (nI c).toNatClampNeg = c := nI_clamp (by omega)
  have v1 : vp_in (nI i) 300 := pk_in i 300 hi
  have v2 : vp_in (nI c) 42 := pk_in c 42 (by omega)
  unfold wpX_perform
  dsimp only
  rw [e, h10, e2, h11]
  refine ⟨v1, nm_e ⟨v1, v2, nm_e ⟨v1, nm_e (br_c (fun _ => hp) (fun _ => br_c (fun z => ?_) (fun _ => br_c (fun _ => ⟨v1, v2, nm_r ?_ hp⟩) (fun _ => br_c (fun _ => nm_r (by decide) hp) (fun _ => br_c (fun _ => nm_r (by decide) hp) (fun _ => br_c (fun _ => nm_r ?_ hp) (fun _ => br_c (fun _ => qd_sat0 hp) (fun _ => qd_spec0 hp))))))))⟩⟩⟩
  · rw [h9 z]
    exact hp
  · exact qd_same (by rw [h11]; decide)
  · rw [show (0 : Int32).toInt64 = 0 from by decide, Int64.mul_zero]
    decide
/-- the run of good code over zeros changes nothing -/
theorem qd_run0 {post : Int32 → St2 → Prop} {m : Nat} (hm : m < 300) (hG : qd_G m a8 a9 a10) (h11 : ∀ j, j < 41 → a11 j = 0) (hp : post 1 (nc, co, so, pl, nI m, hd, 0, sc + 1, a1, a2, a3, a4, a5, a6, a7, a8, a9, a10, a11)) :
    ∃ fu, wX_feed_29 post fu 0 nc co so pl (nI m) hd 0 sc a1 a2 a3 a4 a5 a6 a7 a8 a9 a10 a11 :=
  pk_loop (σ := Unit) (fun n i _ => wX_feed_29 post n (nI i) nc co so pl (nI m) hd 0 sc a1 a2 a3 a4 a5 a6 a7 a8 a9 a10 a11) (fun _ _ => True) m 0 () (by omega) trivial
    (fun n _ _ => pk_le m m (fun _ => nm_e hp) (fun z => absurd z (by omega)))
    (fun n i _ hi _ hw => pk_le m i (fun z => absurd z (by omega)) (fun _ => (hG i hi).1.elim (fun c hc => qd_perf0 (by omega) hc.1 hc.2 (hG i hi).2 (h11 c hc.1) (nm_r (nI_1 i) (hw () trivial)))))
/-- saturated: the law's own clamp -/
theorem qd_satx {post : Int64 → Prop} {x y : Int32} (hy : (32767 < x ∧ y = 32767) ∨ (x < -32768 ∧ y = -32768) ∨ (¬ 32767 < x ∧ ¬ x < -32768 ∧ y = x)) (hp : ∀ r : Int64, r.toInt32 = y → post r) : wpX_saturated post (nc, co, so, pl, ce, hd, ac, sc, a1, a2, a3, a4, a5, a6, a7, a8, a9, a10, a11) x.toInt64 := by
  have e1 : (x.toInt64 ≤ 32767) ↔ ¬ 32767 < x := by
    rw [Int64.le_iff_toInt_le, Int32.lt_iff_toInt_lt, Int32.toInt_toInt64, show (32767 : Int64).toInt = 32767 from by decide, show (32767 : Int32).toInt = 32767 from by decide]
    omega
  have e2 : ((-32768) ≤ x.toInt64) ↔ ¬ x < -32768 := by
    rw [Int64.le_iff_toInt_le, Int32.lt_iff_toInt_lt, Int32.toInt_toInt64, show (-32768 : Int64).toInt = -32768 from by decide, show (-32768 : Int32).toInt = -32768 from by decide]
    omega
  have e3 : x < -32768 → ¬ 32767 < x := by
    rw [Int32.lt_iff_toInt_lt, Int32.lt_iff_toInt_lt, show (-32768 : Int32).toInt = -32768 from by decide, show (32767 : Int32).toInt = 32767 from by decide]
    omega
  unfold wpX_saturated
  dsimp only
  rw [e1, e2]
  rcases hy with ⟨h, rfl⟩ | ⟨h, rfl⟩ | ⟨h, h', rfl⟩
  · exact br_f (fun z => z h) (hp _ (by decide))
  · exact br_t (e3 h) (br_f (fun z => z h) (hp _ (by decide)))
  · exact br_t h (br_t h' (hp _ (Int32.toInt32_toInt64 _)))
end
end
section
section
variable {nc co so pl ce hd sc : Int32} {ac : Int64} {a1 a2 a3 a4 a5 a6 a7 a8 a9 a10 a11 : Nat → Int32}
/-- the mask of namedBy's last loop, one node: bit 0 stays, bits 1 .. i - 1 fall -/
def qd_m : Nat → Int32
  | 0 => -1
  | 1 => -1
  | j + 2 => qd_m (j + 1) &&& (((1 : Int32) <<< (nI (j + 1) &&& 31)) ^^^ (-1))
theorem qd_m20 : qd_m 20 = -1048575 := by decide +kernel
theorem qd_v0 : vp_in 0 20 := pk_in 0 20 (by omega)
theorem qd_mask {post : Int32 → Prop} {S : Int32} (h : ¬ a1 0 = 2) (hp : post (S &&& (-1048575))) : ∃ fu, wX_namedBy_98 post 1 co so pl ce hd ac sc a1 a2 a3 a4 a5 a6 a7 a8 a9 a10 a11 fu S 0 := by
  refine pk_loop (fun n i s => wX_namedBy_98 post 1 co so pl ce hd ac sc a1 a2 a3 a4 a5 a6 a7 a8 a9 a10 a11 n s (nI i)) (fun i s => s = S &&& qd_m i) 20 0 S (by omega) ?_ ?_ ?_
  · show S = S &&& (-1)
    rw [Int32.and_neg_one]
  · intro n s hs
    refine pk_le 20 20 (fun _ => ?_) (fun z => absurd z (by omega))
    rw [hs, qd_m20]
    exact hp
  · intro n i s hi hs hw
    refine pk_le 20 i (fun z => absurd z (by omega)) (fun _ => ?_)
    rcases Nat.eq_zero_or_pos i with e | e
    · subst e
      exact br_f (by decide) ⟨qd_v0, br_f h (nm_r (nI_1 0) (hw s hs))⟩
    · obtain ⟨j, rfl⟩ : ∃ j, i = j + 1 := ⟨i - 1, by omega⟩
      exact pk_le 1 (j + 1) (fun _ => nm_e (nm_r (nI_1 _) (hw _ (by rw [hs]; exact Int32.and_assoc _ _ _)))) (fun z => absurd z (by omega))
/-! bits under the mask -/
theorem qd_bit : ∀ j, j < 20 → ((0 ||| ((1 : Int32) <<< (nI j &&& 31))) &&& (-1048575) = 0 ↔ ¬ j = 0) := by decide +kernel
theorem qd_dist (x y m : Int32) : (x ||| y) &&& m = (x &&& m) ||| (y &&& m) := by
  apply Int32.toBitVec_inj.mp
  rw [Int32.toBitVec_and, Int32.toBitVec_or, Int32.toBitVec_or, Int32.toBitVec_and, Int32.toBitVec_and]
  apply BitVec.eq_of_getLsbD_eq
  intro i _
  simp only [BitVec.getLsbD_and, BitVec.getLsbD_or]
  cases x.toBitVec.getLsbD i <;> cases y.toBitVec.getLsbD i <;> cases m.toBitVec.getLsbD i <;> rfl
theorem qd_bit2 {i j : Nat} (hi : i < 20) (hj : j < 20) : ((0 ||| ((1 : Int32) <<< (nI i &&& 31))) ||| ((1 : Int32) <<< (nI j &&& 31))) &&& (-1048575) = 0 ↔ ¬ (i = 0 ∨ j = 0) := by
  have h := qd_bit j hj
  rw [Int32.zero_or] at h
  rw [qd_dist, Int32.or_eq_zero_iff, qd_bit i hi, h]
  omega
/-- a node's own name among those it names -/
def qd_L (k a b t n : Nat) : Prop := (3 ≤ k ∧ k ≤ 9 ∧ a = 0) ∨ (3 ≤ k ∧ k ≤ 5 ∧ b = 0) ∨ (k = 10 ∧ t = 1 ∧ n = 0)
/-- the one node, as its arrays hold it -/
def qd_P (k a b t n : Nat) (a1 a2 a3 a4 a5 : Nat → Int32) : Prop := k ≤ 10 ∧ a1 0 = nI k ∧ (2 ≤ k → k ≤ 9 → a < 20 ∧ a2 0 = nI a) ∧ (3 ≤ k → k ≤ 5 → b < 20 ∧ a3 0 = nI b) ∧ t ≤ 1 ∧ a4 0 = nI t ∧ (t = 1 → n < 20 ∧ a5 0 = nI n)
theorem qd_lt {a b : Nat} (h : a < b) (hb : b < 100 := by omega) : nI a < nI b := nI_lt h (by omega)
theorem qd_nlt {a b : Nat} (h : b ≤ a) (hb : a < 100 := by omega) : ¬ nI a < nI b := nI_nlt h (by omega)
theorem qd_eq {a b : Nat} (ha : a < 100 := by omega) (hb : b < 100 := by omega) : nI a = nI b ↔ a = b := nI_eq (by omega) (by omega)
theorem qd_n52a {post : Int32 → Prop} {k : Nat} {S : Int32} (hk : k < 10) (h2 : ¬ a1 0 = 2) (hp : post (S &&& (-1048575))) : wX_namedBy_52 post 0 (nI k) S 1 co so pl ce hd ac sc a1 a2 a3 a4 a5 a6 a7 a8 a9 a10 a11 :=
  pk_eq k 10 (fun z => absurd z (by omega)) (fun _ => qd_mask h2 hp)
theorem qd_named {post : Int32 → Prop} {k a b t n : Nat} (hP : qd_P k a b t n a1 a2 a3 a4 a5) (h2 : ¬ k = 2) (hp : ∀ r : Int32, (r = 0 ↔ ¬ qd_L k a b t n) → post r) : wpX_namedBy post (1, co, so, pl, ce, hd, ac, sc, a1, a2, a3, a4, a5, a6, a7, a8, a9, a10, a11) 0 := by
  obtain ⟨hk, e1, e2, e3, ht, e4, e5⟩ := hP
  have n2 : ¬ a1 0 = 2 := by
    rw [e1]
    exact fun z => h2 ((nI_eq (b := 2) (by omega) (by omega)).mp z)
  have e0 : (0 : Int32).toNatClampNeg = 0 := by decide
  have e6 : ((6 : Int32) * 0 + 0).toNatClampNeg = 0 := by decide
  unfold wpX_namedBy
  dsimp only
  rw [e0, e1]
  refine ⟨qd_v0, nm_e (pk_lt k 3 (fun h => ?_) (fun h => pk_lt 9 k (fun h' => ?_) (fun h' => ⟨qd_v0, nm_e ?_⟩)))⟩
  · refine pk_lt k 3 (fun _ => qd_n52a (by omega) n2 (hp _ ?_)) (fun z => absurd z (by omega))
    refine ⟨fun _ => ?_, fun _ => Int32.zero_and⟩
    unfold qd_L
    omega
  · have hk10 : k = 10 := by omega
    subst hk10
    refine pk_lt 10 3 (fun z => absurd z (by omega)) (fun _ => pk_lt 5 10 (fun _ => pk_eq 10 10 (fun _ => ?_) (fun z => absurd rfl z)) (fun z => absurd z (by omega)))
    rcases Nat.eq_zero_or_pos t with z | z
    · subst z
      refine ⟨1, qd_v0, br_t (by rw [e0, e4]; decide) (qd_mask n2 (hp _ ?_))⟩
      refine ⟨fun _ => ?_, fun _ => Int32.zero_and⟩
      unfold qd_L
      omega
    · have t1 : t = 1 := by omega
      obtain ⟨hn, e5'⟩ := e5 t1
      subst t1
      refine ⟨2, qd_v0, br_f (by rw [e0, e4]; decide) ⟨pk_in 0 120 (by omega), nm_e (nm_e ⟨qd_v0, br_t (by rw [e0, e4]; decide) (qd_mask n2 (hp _ ?_))⟩)⟩⟩
      rw [e6, e5', qd_bit n hn]
      unfold qd_L
      omega
  · obtain ⟨ha, e2⟩ := e2 (by omega) (by omega)
    rw [e2]
    refine pk_lt k 3 (fun z => absurd z (by omega)) (fun _ => pk_lt 5 k (fun h5 => qd_n52a (by omega) n2 (hp _ ?_)) (fun h5 => ⟨qd_v0, nm_e (qd_n52a (by omega) n2 (hp _ ?_))⟩))
    · rw [qd_bit a ha]
      unfold qd_L
      omega
    · obtain ⟨hb, e3⟩ := e3 (by omega) (by omega)
      rw [e0, e3, qd_bit2 ha hb]
      unfold qd_L
      omega
/-! the order of one node -/
theorem qd_order_d {post : Int32 → St2 → Prop} (h : a1 0 = 2) (hp : post 1 (1, co, so, 0, ce, hd, ac, sc, a1, a2, a3, a4, a5, a6, a7, a8, a9, a10, a11)) : wpX_orderNodes post (1, co, so, pl, ce, hd, ac, sc, a1, a2, a3, a4, a5, a6, a7, a8, a9, a10, a11) := by
  unfold wpX_orderNodes
  dsimp only
  exact ⟨2, br_f (by decide) ⟨qd_v0, br_t h (nm_r (show (0 : Int32) + 1 = 1 from by decide) (nm_r (show (0 : Int32) + 1 = 1 from by decide) (br_t (by decide) ⟨2, br_f (by decide) ⟨2, br_f (by decide) ⟨qd_v0, br_t h (nm_r (show (0 : Int32) + 1 = 1 from by decide) (br_t (by decide) (nm_r (show (0 : Int32) + 1 = 1 from by decide) (br_t (by decide) (br_t (by decide) hp)))))⟩⟩⟩)))⟩⟩
theorem qd_order_n {post : Int32 → St2 → Prop} {L : Prop} (h : ¬ a1 0 = 2) (hN : ∀ q : Int32 → Prop, (∀ r : Int32, (r = 0 ↔ ¬ L) → q r) → wpX_namedBy q (1, co, so, 0, ce, hd, ac, sc, a1, a2, a3, a4, a5, a6, a7, a8, a9, a10, a11) 0)
    (hp1 : ¬ L → post 1 (1, co, so, 1, ce, hd, ac, sc, a1, a2, a3, a4, a5, a6, upd a7 0 0, a8, a9, a10, a11)) (hp0 : L → post 0 (1, co, so, 0, ce, hd, ac, sc, a1, a2, a3, a4, a5, a6, a7, a8, a9, a10, a11)) : wpX_orderNodes post (1, co, so, pl, ce, hd, ac, sc, a1, a2, a3, a4, a5, a6, a7, a8, a9, a10, a11) := by
  have e1 : (0 : Int32) + 1 = 1 := by decide
  have e7 : upd a7 (0 : Int32).toNatClampNeg ((0 : Int32).toInt8.toInt32) = upd a7 0 0 := by
    rw [show (0 : Int32).toNatClampNeg = 0 from by decide, show (0 : Int32).toInt8.toInt32 = 0 from by decide]
  unfold wpX_orderNodes
  dsimp only
  refine ⟨2, br_f (by decide) ⟨qd_v0, br_f h (nm_r e1 (br_t (by decide) ⟨2, br_f (by decide) ⟨2, br_f (by decide) ⟨qd_v0, br_f h (br_t (by decide) (hN _ (fun r hr => ?_)))⟩⟩⟩))⟩⟩
  have er : r &&& (0 ^^^ (-1)) = r := by
    rw [Int32.zero_xor, Int32.and_neg_one]
  dsimp only
  rw [er]
  exact br_c (fun z => nm_e ⟨qd_v0, nm_r e7 (nm_r e1 (nm_r e1 (br_t (by decide) (nm_r e1 (br_t (by decide) (br_t (by decide) (hp1 (hr.mp z))))))))⟩) (fun z => nm_r e1 (br_t (by decide) (nm_r e1 (br_t (by decide) (br_f (by decide) (hp0 (Classical.byContradiction (fun n => z (hr.mpr n)))))))))
/-- no node at all -/
theorem qd_order_0 {post : Int32 → St2 → Prop} (hp : post 1 (0, co, so, 0, ce, hd, ac, sc, a1, a2, a3, a4, a5, a6, a7, a8, a9, a10, a11)) : wpX_orderNodes post (0, co, so, pl, ce, hd, ac, sc, a1, a2, a3, a4, a5, a6, a7, a8, a9, a10, a11) := by
  unfold wpX_orderNodes
  dsimp only
  exact ⟨1, br_t (by decide) ⟨1, br_t (by decide) (br_t (by decide) hp)⟩⟩
end
end
section
section
variable {nc co so pl ce hd sc : Int32} {ac : Int64} {a1 a2 a3 a4 a5 a6 a7 a8 a9 a10 a11 : Nat → Int32}
theorem qd_gOne {post : St2 → Prop} {k a m b : Nat} (hk : k ≤ 9) (e1 : a1 0 = nI k) (ha : a < 20) (e2 : a2 0 = nI a) (hm : m ≤ b) (hb : b < 200) (hG : qd_G m a8 a9 a10)
    (hK : qd_K post (b + 3) nc co so pl ac sc a1 a2 a3 a4 a5 a6 a7 a11) : wpX_compileOne post (nc, co, so, pl, nI m, hd, ac, sc, a1, a2, a3, a4, a5, a6, a7, a8, a9, a10, a11) 0 := by
  have e0 : (0 : Int32).toNatClampNeg = 0 := by decide
  have K84 : qd_K (fun u => match u with | (nc, co, so, pl, ce, hd, ac, sc, a1, a2, a3, a4, a5, a6, a7, a8, a9, a10, a11) => wX_compileOne_84 post (nI k) nc co so pl ce hd ac sc a1 a2 a3 a4 a5 a6 a7 a8 a9 a10 a11) (b + 2) nc co so pl ac sc a1 a2 a3 a4 a5 a6 a7 a11 := by
    intro m1 hd1 b8 b9 b10 h1 g1
    exact pk_eq k 9 (fun _ => hK m1 hd1 b8 b9 b10 (by omega) g1) (fun _ => qd_gw (c := 40) h1 (by omega) g1 (by omega) (fun z => absurd z (by decide)) (fun m2 hd2 c8 c9 c10 h2 g2 => hK m2 hd2 c8 c9 c10 h2 g2))
  unfold wpX_compileOne
  dsimp only
  rw [e0, e1]
  refine ⟨qd_v0, nm_e ⟨qd_v0, qd_cellFor e2 ha (fun c hc => qd_gload hm (by omega) hG hc (fun m1 hd1 b8 b9 b10 h1 g1 => ?_))⟩⟩
  have W : ∀ (z n : Int32), ¬ z.toInt8.toInt32 = 1 → wpX_write (fun u => match u with | (nc, co, so, pl, ce, hd, ac, sc, a1, a2, a3, a4, a5, a6, a7, a8, a9, a10, a11) => wX_compileOne_84 post (nI k) nc co so pl ce hd ac sc a1 a2 a3 a4 a5 a6 a7 a8 a9 a10 a11) (nc, co, so, pl, nI m1, hd1, ac, sc, a1, a2, a3, a4, a5, a6, a7, b8, b9, b10, a11) z 40 n :=
    fun z n hz => qd_gw (c := 40) h1 (by omega) g1 (by omega) (fun e => absurd e hz) K84
  exact pk_eq k 6 (fun _ => W 6 0 (by decide)) (fun _ => pk_eq k 7 (fun _ => W 7 0 (by decide)) (fun _ => pk_eq k 8 (fun _ => ⟨qd_v0, W 8 _ (by decide)⟩) (fun _ => ⟨qd_v0, W 9 _ (by decide)⟩)))
theorem qd_gTwo {post : St2 → Prop} {k a d m b : Nat} (hk : k ≤ 9) (e1 : a1 0 = nI k) (ha : a < 20) (e2 : a2 0 = nI a) (hd' : d < 20) (e3 : a3 0 = nI d) (hm : m ≤ b) (hb : b < 200) (hG : qd_G m a8 a9 a10)
    (hK : qd_K post (b + 3) nc co so pl ac sc a1 a2 a3 a4 a5 a6 a7 a11) : wpX_compileTwo post (nc, co, so, pl, nI m, hd, ac, sc, a1, a2, a3, a4, a5, a6, a7, a8, a9, a10, a11) 0 := by
  have e0 : (0 : Int32).toNatClampNeg = 0 := by decide
  unfold wpX_compileTwo
  dsimp only
  rw [e0, e1]
  refine ⟨qd_v0, nm_e ⟨qd_v0, qd_cellFor e2 ha (fun c hc => ⟨qd_v0, qd_cellFor e3 hd' (fun f hf => qd_gload hm (by omega) hG hc (fun m1 hd1 b8 b9 b10 h1 g1 => ?_))⟩)⟩⟩
  have W : ∀ (z : Int32), ¬ z.toInt8.toInt32 = 1 → wX_compileTwo_55 post (nI k) (nI f) z nc co so pl (nI m1) hd1 ac sc a1 a2 a3 a4 a5 a6 a7 b8 b9 b10 a11 := by
    intro z hz
    unfold wX_compileTwo_55
    refine qd_gw h1 (by omega) g1 hf (fun e => absurd e hz) (fun m2 hd2 c8 c9 c10 h2 g2 => ?_)
    exact pk_eq k 5 (fun _ => hK m2 hd2 c8 c9 c10 (by omega) g2) (fun _ => qd_gw (c := 40) h2 (by omega) g2 (by omega) (fun z => absurd z (by decide)) (fun m3 hd3 d8 d9 d10 h3 g3 => hK m3 hd3 d8 d9 d10 h3 g3))
  exact pk_eq k 3 (fun _ => W 3 (by decide)) (fun _ => pk_eq k 4 (fun _ => W 4 (by decide)) (fun _ => W 5 (by decide)))
theorem qd_gSum {post : St2 → Prop} {t n m b : Nat} (ht : t ≤ 1) (e4 : a4 0 = nI t) (e5 : t = 1 → n < 20 ∧ a5 0 = nI n) (hm : m ≤ b) (hb : b < 200) (hG : qd_G m a8 a9 a10)
    (hK : qd_K post (b + 4) nc co so pl ac sc a1 a2 a3 a4 a5 a6 a7 a11) : wpX_compileSum post (nc, co, so, pl, nI m, hd, ac, sc, a1, a2, a3, a4, a5, a6, a7, a8, a9, a10, a11) 0 := by
  have v120 : vp_in ((6 : Int32) * 0 + 0) 120 := pk_in 0 120 (by omega)
  have e1 : (0 : Int32) + 1 = 1 := by decide
  have X : ∀ (m1 : Nat) (hd1 : Int32) (b8 b9 b10 : Nat → Int32), m1 ≤ b + 2 → qd_G m1 b8 b9 b10 →
      wpX_write (fun u => match u with | (nc, co, so, pl, ce, hd, ac, sc, a1, a2, a3, a4, a5, a6, a7, a8, a9, a10, a11) => wpX_write (fun u => match u with | (nc, co, so, pl, ce, hd, ac, sc, a1, a2, a3, a4, a5, a6, a7, a8, a9, a10, a11) => post (nc, co, so, pl, ce, hd, ac, sc, a1, a2, a3, a4, a5, a6, a7, a8, a9, a10, a11)) (nc, co, so, pl, ce, hd, ac, sc, a1, a2, a3, a4, a5, a6, a7, a8, a9, a10, a11) 12 40 0) (nc, co, so, pl, nI m1, hd1, ac, sc, a1, a2, a3, a4, a5, a6, a7, b8, b9, b10, a11) 11 40 0 :=
    fun m1 hd1 b8 b9 b10 h1 g1 => qd_gw (c := 40) h1 (by omega) g1 (by omega) (fun z => absurd z (by decide)) (fun m2 hd2 c8 c9 c10 h2 g2 =>
      qd_gw (c := 40) h2 (by omega) g2 (by omega) (fun z => absurd z (by decide)) (fun m3 hd3 d8 d9 d10 h3 g3 => hK m3 hd3 d8 d9 d10 h3 g3))
  unfold wpX_compileSum
  dsimp only
  refine qd_gw (c := 40) hm (by omega) hG (by omega) (fun _ => rfl) (fun m1 hd1 b8 b9 b10 h1 g1 => ?_)
  rcases Nat.eq_zero_or_pos t with z | z
  · subst z
    exact ⟨1, qd_v0, br_t (show a4 0 ≤ 0 by rw [e4]; decide) (X m1 hd1 b8 b9 b10 (by omega) g1)⟩
  · have t1 : t = 1 := by omega
    obtain ⟨hn, e5'⟩ := e5 t1
    subst t1
    exact ⟨2, qd_v0, br_f (show ¬ a4 0 ≤ 0 by rw [e4]; decide) (nm_e ⟨v120, qd_cellFor e5' hn (fun c hc => ⟨v120, qd_gw h1 (by omega) g1 hc (fun z => absurd z (by decide)) (fun m2 hd2 c8 c9 c10 h2 g2 =>
      nm_r e1 ⟨qd_v0, br_t (show a4 0 ≤ 1 by rw [e4]; decide) (X m2 hd2 c8 c9 c10 h2 g2)⟩)⟩)⟩)⟩
theorem qd_gNode {post : St2 → Prop} {k a d t n m b : Nat} (hP : qd_P k a d t n a1 a2 a3 a4 a5) (h3 : 3 ≤ k) (hm : m ≤ b) (hb : b < 190) (hG : qd_G m a8 a9 a10)
    (hK : qd_K post (b + 5) nc co so pl ac sc a1 a2 a3 a4 a5 a6 a7 a11) : wpX_compileNode post (nc, co, so, pl, nI m, hd, ac, sc, a1, a2, a3, a4, a5, a6, a7, a8, a9, a10, a11) 0 := by
  obtain ⟨hk, e1, e2, e3, ht, e4, e5⟩ := hP
  have e0 : (0 : Int32).toNatClampNeg = 0 := by decide
  have K73 : qd_K (fun u => match u with | (nc, co, so, pl, ce, hd, ac, sc, a1, a2, a3, a4, a5, a6, a7, a8, a9, a10, a11) => wX_compileNode_73 post 0 nc co so pl ce hd ac sc a1 a2 a3 a4 a5 a6 a7 a8 a9 a10 a11) (b + 4) nc co so pl ac sc a1 a2 a3 a4 a5 a6 a7 a11 := by
    intro m1 hd1 b8 b9 b10 h1 g1
    show wX_compileNode_73 post 0 nc co so pl (nI m1) hd1 ac sc a1 a2 a3 a4 a5 a6 a7 b8 b9 b10 a11
    unfold wX_compileNode_73
    exact qd_gstore (c := 0) h1 (by omega) g1 (by omega) (fun m2 hd2 c8 c9 c10 h2 g2 => hK m2 hd2 c8 c9 c10 h2 g2)
  unfold wpX_compileNode
  dsimp only
  rw [e0, e1]
  refine ⟨qd_v0, nm_e (pk_eq k 0 (fun z => absurd z (by omega)) (fun _ => pk_eq k 1 (fun z => absurd z (by omega)) (fun _ => pk_eq k 10 (fun _ => ?_) (fun h10 => pk_lt 5 k (fun h5 => ?_) (fun h5 => ?_)))))⟩
  · exact qd_gSum ht e4 e5 hm (by omega) hG K73
  · exact qd_gOne (by omega) e1 (e2 (by omega) (by omega)).1 (e2 (by omega) (by omega)).2 hm (by omega) hG (qd_Kle (by omega) K73)
  · exact qd_gTwo (by omega) e1 (e2 (by omega) (by omega)).1 (e2 (by omega) (by omega)).2 (e3 (by omega) (by omega)).1 (e3 (by omega) (by omega)).2 hm (by omega) hG (qd_Kle (by omega) K73)
/-! compile -/
theorem qd_nb0 : narrow .boolean (.int 0) = .int 0 := rfl
theorem qd_nb1 : narrow .boolean (.int 1) = .int 1 := rfl
theorem qd_fb0 : fits .boolean (.int 0) = true := rfl
theorem qd_fb1 : fits .boolean (.int 1) = true := rfl
theorem qd_00 : (0 : Int32) ≤ 0 := by decide
theorem qd_10 : ¬ (1 : Int32) ≤ 0 := by decide
theorem qd_11 : (1 : Int32) ≤ 1 := by decide
theorem qd_n10 : ¬ (1 : Int32) = 0 := by decide
theorem qd_e1 : (0 : Int32) + 1 = 1 := by decide
/-- no node -/
theorem qd_comp_0 {post : St2 → Prop} (hp : post (0, 1, 1, 0, 0, -1, ac, sc, a1, a2, a3, a4, a5, a6, a7, a8, a9, a10, a11)) : wpX_compile post (0, 0, so, pl, ce, hd, ac, sc, a1, a2, a3, a4, a5, a6, a7, a8, a9, a10, a11) := by
  unfold wpX_compile
  dsimp only
  exact br_t rfl (qd_order_0 ⟨qd_nb1, qd_fb1, br_f qd_n10 ⟨1, br_t qd_00 ⟨1, br_t qd_00 ⟨1, br_t qd_00 hp⟩⟩⟩⟩)
/-- a node that names itself -/
theorem qd_comp_L {post : St2 → Prop} {L : Prop} (h : ¬ a1 0 = 2) (hN : ∀ q : Int32 → Prop, (∀ r : Int32, (r = 0 ↔ ¬ L) → q r) → wpX_namedBy q (1, 1, so, 0, 0, -1, ac, sc, a1, a2, a3, a4, a5, a6, a7, a8, a9, a10, a11) 0) (hL : L)
    (hp : post (1, 1, 0, 0, 0, -1, ac, sc, a1, a2, a3, a4, a5, a6, a7, a8, a9, a10, a11)) : wpX_compile post (1, 0, so, pl, ce, hd, ac, sc, a1, a2, a3, a4, a5, a6, a7, a8, a9, a10, a11) := by
  unfold wpX_compile
  dsimp only
  exact br_t rfl (qd_order_n h hN (fun z => absurd hL z) (fun _ => ⟨qd_nb0, qd_fb0, br_t rfl hp⟩))
/-- a delay -/
theorem qd_comp_d {post : St2 → Prop} {a : Nat} (h : a1 0 = 2) (ha : a < 20) (e2 : a2 0 = nI a) (hK : qd_K post 4 1 1 1 0 ac sc a1 a2 a3 a4 a5 a6 a7 a11) : wpX_compile post (1, 0, so, pl, ce, hd, ac, sc, a1, a2, a3, a4, a5, a6, a7, a8, a9, a10, a11) := by
  unfold wpX_compile
  dsimp only
  refine br_t rfl (qd_order_d h ⟨qd_nb1, qd_fb1, br_f qd_n10 ⟨2, br_f qd_10 ⟨qd_v0, br_t h (qd_gcopy (m := 0) (b := 0) (c := 20) (d := 0) (by omega) (by omega) qd_G0 (by omega) (by omega) (fun m1 hd1 b8 b9 b10 h1 g1 => ?_))⟩⟩⟩)
  refine nm_r qd_e1 (br_t qd_11 ⟨1, br_t qd_00 ⟨2, br_f qd_10 ⟨qd_v0, qd_cellFor e2 ha (fun c hc => ⟨qd_v0, br_t h (qd_gcopy (c := c) (d := 20) h1 (by omega) g1 hc (by omega) (fun m2 hd2 c8 c9 c10 h2 g2 => ?_))⟩)⟩⟩⟩)
  exact nm_r qd_e1 (br_t qd_11 (hK m2 hd2 c8 c9 c10 h2 g2))
/-- another node, once it is ordered -/
theorem qd_comp_n {post : St2 → Prop} {L : Prop} {Q : Int32 → Int32 → (Nat → Int32) → (Nat → Int32) → (Nat → Int32) → Prop} (h : ¬ a1 0 = 2)
    (hN : ∀ q : Int32 → Prop, (∀ r : Int32, (r = 0 ↔ ¬ L) → q r) → wpX_namedBy q (1, 1, so, 0, 0, -1, ac, sc, a1, a2, a3, a4, a5, a6, a7, a8, a9, a10, a11) 0) (hL : ¬ L)
    (hC : ∀ q : St2 → Prop, (∀ (ce hd : Int32) (a8 a9 a10 : Nat → Int32), Q ce hd a8 a9 a10 → q (1, 1, 1, 1, ce, hd, ac, sc, a1, a2, a3, a4, a5, a6, upd a7 0 0, a8, a9, a10, a11)) → wpX_compileNode q (1, 1, 1, 1, 0, -1, ac, sc, a1, a2, a3, a4, a5, a6, upd a7 0 0, a8, a9, a10, a11) 0)
    (hp : ∀ (ce hd : Int32) (a8 a9 a10 : Nat → Int32), Q ce hd a8 a9 a10 → post (1, 1, 1, 1, ce, hd, ac, sc, a1, a2, a3, a4, a5, a6, upd a7 0 0, a8, a9, a10, a11)) : wpX_compile post (1, 0, so, pl, ce, hd, ac, sc, a1, a2, a3, a4, a5, a6, a7, a8, a9, a10, a11) := by
  unfold wpX_compile
  dsimp only
  refine br_t rfl (qd_order_n h hN (fun _ => ⟨qd_nb1, qd_fb1, br_f qd_n10 ⟨2, br_f qd_10 ⟨qd_v0, br_f h (nm_r qd_e1 (br_t qd_11 ⟨2, br_f qd_10 ⟨qd_v0, hC _ (fun ce1 hd1 b8 b9 b10 hq => ?_)⟩⟩))⟩⟩⟩) (fun z => absurd z hL))
  exact nm_r qd_e1 (br_t qd_11 ⟨2, br_f qd_10 ⟨qd_v0, qd_cellAny (fun c => ⟨qd_v0, br_f h (nm_r qd_e1 (br_t qd_11 (hp _ _ _ _ _ hq)))⟩)⟩⟩)
end
end
section
section
variable {nc co so pl ce hd sc : Int32} {ac : Int64} {a1 a2 a3 a4 a5 a6 a7 a8 a9 a10 a11 : Nat → Int32}
/-! single instructions, for the input and the constant -/
theorem qd_perf_load {post : St2 → Prop} {i c : Nat} (hi : i < 300) (hc : c < 42) (h8 : a8 i = 0) (h10 : a10 i = nI c) (hp : post (nc, co, so, pl, ce, hd, (a11 c).toInt64, sc, a1, a2, a3, a4, a5, a6, a7, a8, a9, a10, a11)) : wpX_perform post (nc, co, so, pl, ce, hd, ac, sc, a1, a2, a3, a4, a5, a6, a7, a8, a9, a10, a11) (nI i) := by
  have e : (nI i).toNatClampNeg = i := nI_clamp (by omega)
  have e2 : (nI c).toNatClampNeg = c := nI_clamp (by omega)
  have v1 : vp_in (nI i) 300 := pk_in i 300 hi
  have v2 : vp_in (nI c) 42 := pk_in c 42 hc
  unfold wpX_perform
  dsimp only
  rw [e, h10, e2, h8]
  exact ⟨v1, nm_e ⟨v1, v2, nm_e ⟨v1, nm_e (br_t rfl hp)⟩⟩⟩
theorem qd_perf_num {post : St2 → Prop} {i c : Nat} (hi : i < 300) (hc : c < 42) (h8 : a8 i = 1) (h10 : a10 i = nI c) (hp : post (nc, co, so, pl, ce, hd, (a9 i).toInt64, sc, a1, a2, a3, a4, a5, a6, a7, a8, a9, a10, a11)) : wpX_perform post (nc, co, so, pl, ce, hd, ac, sc, a1, a2, a3, a4, a5, a6, a7, a8, a9, a10, a11) (nI i) := by
  have e : (nI i).toNatClampNeg = i := nI_clamp (by omega)
  have e2 : (nI c).toNatClampNeg = c := nI_clamp (by omega)
  have v1 : vp_in (nI i) 300 := pk_in i 300 hi
  have v2 : vp_in (nI c) 42 := pk_in c 42 hc
  unfold wpX_perform
  dsimp only
  rw [e, h10, e2, h8]
  exact ⟨v1, nm_e ⟨v1, v2, nm_e ⟨v1, nm_e (br_f (by decide) (br_t rfl hp))⟩⟩⟩
theorem qd_perf_store {post : St2 → Prop} {i c : Nat} (hi : i < 300) (hc : c < 42) (h8 : a8 i = 2) (h10 : a10 i = nI c) (hp : post (nc, co, so, pl, ce, hd, ac, sc, a1, a2, a3, a4, a5, a6, a7, a8, a9, a10, upd a11 c ac.toInt32)) : wpX_perform post (nc, co, so, pl, ce, hd, ac, sc, a1, a2, a3, a4, a5, a6, a7, a8, a9, a10, a11) (nI i) := by
  have e : (nI i).toNatClampNeg = i := nI_clamp (by omega)
  have e2 : (nI c).toNatClampNeg = c := nI_clamp (by omega)
  have v1 : vp_in (nI i) 300 := pk_in i 300 hi
  have v2 : vp_in (nI c) 42 := pk_in c 42 hc
  unfold wpX_perform
  dsimp only
  rw [e, h10, e2, h8]
  exact ⟨v1, nm_e ⟨v1, v2, nm_e ⟨v1, nm_e (br_f (by decide) (br_f (by decide) (br_t rfl ⟨v1, v2, nm_e hp⟩)))⟩⟩⟩
/-- the input's code -/
def qd_Q0 (ce hd : Int32) (a8 a9 a10 : Nat → Int32) : Prop := ce = nI 2 ∧ a8 0 = 0 ∧ a10 0 = nI 41 ∧ a8 1 = 2 ∧ a10 1 = nI 0
/-- a constant's code -/
def qd_Q1 (x : Int32) (ce hd : Int32) (a8 a9 a10 : Nat → Int32) : Prop := ce = nI 2 ∧ a8 0 = 1 ∧ a10 0 = nI 40 ∧ a9 0 = x ∧ a8 1 = 2 ∧ a10 1 = nI 0
/-- good code -/
def qd_QG (ce hd : Int32) (a8 a9 a10 : Nat → Int32) : Prop := ∃ m : Nat, m ≤ 5 ∧ ce = nI m ∧ qd_G m a8 a9 a10
theorem qd_run_0 {post : Int32 → St2 → Prop} (hQ : qd_Q0 ce hd a8 a9 a10) (hp : ∀ ac : Int64, post 1 (nc, co, so, pl, ce, hd, ac, sc + 1, a1, a2, a3, a4, a5, a6, a7, a8, a9, a10, upd a11 0 (a11 41))) : ∃ fu, wX_feed_29 post fu 0 nc co so pl ce hd ac sc a1 a2 a3 a4 a5 a6 a7 a8 a9 a10 a11 := by
  obtain ⟨rfl, h1, h2, h3, h4⟩ := hQ
  refine ⟨3, br_f (by decide) (qd_perf_load (i := 0) (c := 41) (by omega) (by omega) h1 h2 (nm_r (nI_1 0) (br_f (by decide) (qd_perf_store (i := 1) (c := 0) (by omega) (by omega) h3 h4 (nm_r (nI_1 1) (br_t (by decide) (nm_e ?_)))))))⟩
  rw [Int32.toInt32_toInt64]
  exact hp _
theorem qd_run_1 {post : Int32 → St2 → Prop} {x : Int32} (hQ : qd_Q1 x ce hd a8 a9 a10) (hp : ∀ ac : Int64, post 1 (nc, co, so, pl, ce, hd, ac, sc + 1, a1, a2, a3, a4, a5, a6, a7, a8, a9, a10, upd a11 0 x)) : ∃ fu, wX_feed_29 post fu 0 nc co so pl ce hd ac sc a1 a2 a3 a4 a5 a6 a7 a8 a9 a10 a11 := by
  obtain ⟨rfl, h1, h2, h5, h3, h4⟩ := hQ
  refine ⟨3, br_f (by decide) (qd_perf_num (i := 0) (c := 40) (by omega) (by omega) h1 h2 (nm_r (nI_1 0) (br_f (by decide) (qd_perf_store (i := 1) (c := 0) (by omega) (by omega) h3 h4 (nm_r (nI_1 1) (br_t (by decide) (nm_e ?_)))))))⟩
  rw [Int32.toInt32_toInt64, h5]
  exact hp _
theorem qd_node_0 {post : St2 → Prop} (e1 : a1 0 = 0) (hp : ∀ (ce hd : Int32) (a8 a9 a10 : Nat → Int32), qd_Q0 ce hd a8 a9 a10 → post (nc, co, so, pl, ce, hd, ac, sc, a1, a2, a3, a4, a5, a6, a7, a8, a9, a10, a11)) : wpX_compileNode post (nc, co, so, pl, 0, -1, ac, sc, a1, a2, a3, a4, a5, a6, a7, a8, a9, a10, a11) 0 := by
  have e0 : (0 : Int32).toNatClampNeg = 0 := by decide
  unfold wpX_compileNode
  dsimp only
  rw [e0, e1]
  refine ⟨qd_v0, nm_e (br_t rfl ?_)⟩
  unfold wpX_load
  dsimp only
  refine br_f (by decide) (qd_write (m := 0) (by omega) ?_)
  dsimp only
  unfold wX_compileNode_73 wpX_store
  dsimp only
  refine qd_write (m := 1) (by omega) ?_
  exact hp _ _ _ _ _ ⟨rfl, rfl, rfl, rfl, rfl⟩
theorem qd_node_1 {post : St2 → Prop} (e1 : a1 0 = 1) (hp : ∀ (ce hd : Int32) (a8 a9 a10 : Nat → Int32), qd_Q1 (a2 0) ce hd a8 a9 a10 → post (nc, co, so, pl, ce, hd, ac, sc, a1, a2, a3, a4, a5, a6, a7, a8, a9, a10, a11)) : wpX_compileNode post (nc, co, so, pl, 0, -1, ac, sc, a1, a2, a3, a4, a5, a6, a7, a8, a9, a10, a11) 0 := by
  have e0 : (0 : Int32).toNatClampNeg = 0 := by decide
  unfold wpX_compileNode
  dsimp only
  rw [e0, e1]
  refine ⟨qd_v0, nm_e (br_f (by decide) (br_t rfl ⟨qd_v0, qd_write (m := 0) (by omega) ?_⟩))⟩
  dsimp only
  unfold wX_compileNode_73 wpX_store
  dsimp only
  refine qd_write (m := 1) (by omega) ?_
  exact hp _ _ _ _ _ ⟨rfl, rfl, rfl, rfl, rfl, rfl⟩
theorem qd_node_g {post : St2 → Prop} {k a d t n : Nat} (hP : qd_P k a d t n a1 a2 a3 a4 a5) (h3 : 3 ≤ k) (hp : ∀ (ce hd : Int32) (a8 a9 a10 : Nat → Int32), qd_QG ce hd a8 a9 a10 → post (nc, co, so, pl, ce, hd, ac, sc, a1, a2, a3, a4, a5, a6, a7, a8, a9, a10, a11)) : wpX_compileNode post (nc, co, so, pl, 0, -1, ac, sc, a1, a2, a3, a4, a5, a6, a7, a8, a9, a10, a11) 0 :=
  qd_gNode (m := 0) (b := 0) hP h3 (by omega) (by omega) qd_G0 (fun m hd b8 b9 b10 hm hG => hp _ _ _ _ _ ⟨m, hm, rfl, hG⟩)
/-! feed, value -/
theorem qd_feed_L {post : Int32 → St2 → Prop} {x : Int32} (hp : post 0 (nc, 1, 0, pl, ce, hd, ac, sc, a1, a2, a3, a4, a5, a6, a7, a8, a9, a10, a11)) : wpX_feed post (nc, 1, 0, pl, ce, hd, ac, sc, a1, a2, a3, a4, a5, a6, a7, a8, a9, a10, a11) x := by
  unfold wpX_feed
  dsimp only
  unfold wpX_compile
  dsimp only
  exact br_f (by decide) (br_t rfl hp)
def qd_clamp (x y : Int32) : Prop := (32767 < x ∧ y = 32767) ∨ (x < -32768 ∧ y = -32768) ∨ (¬ 32767 < x ∧ ¬ x < -32768 ∧ y = x)
theorem qd_feed_1 {post : Int32 → St2 → Prop} {x y : Int32} (hy : qd_clamp x y) (hr : ∃ fu, wX_feed_29 post fu 0 nc 1 1 pl ce hd ac sc a1 a2 a3 a4 a5 a6 a7 a8 a9 a10 (upd a11 41 y)) : wpX_feed post (nc, 1, 1, pl, ce, hd, ac, sc, a1, a2, a3, a4, a5, a6, a7, a8, a9, a10, a11) x := by
  unfold wpX_feed
  dsimp only
  unfold wpX_compile
  dsimp only
  exact br_f (by decide) (br_f (by decide) (qd_satx hy (fun r e => nm_r (by rw [e]) hr)))
theorem qd_value_1 {q : Int32 → Prop} {D : Int32} (h : a11 0 = D) (hq : q D) : wpX_value q (1, co, so, pl, ce, hd, ac, 1, a1, a2, a3, a4, a5, a6, a7, a8, a9, a10, a11) 0 := by
  unfold wpX_value
  dsimp only
  subst h
  exact br_f (by decide) (br_f (by decide) (br_f (by decide) ⟨pk_in 0 42 (by omega), hq⟩))
theorem qd_value_L {q : Int32 → Prop} (hq : q 0) : wpX_value q (1, co, so, pl, ce, hd, ac, 0, a1, a2, a3, a4, a5, a6, a7, a8, a9, a10, a11) 0 := by
  unfold wpX_value
  dsimp only
  exact br_f (by decide) (br_f (by decide) (br_t rfl hq))
theorem qd_value_0 {q : Int32 → Prop} (hq : q 0) : wpX_value q (0, co, so, pl, ce, hd, ac, sc, a1, a2, a3, a4, a5, a6, a7, a8, a9, a10, a11) 0 := by
  unfold wpX_value
  dsimp only
  exact br_f (by decide) (br_t (by decide) hq)
/-! the end of the law -/
theorem qd_fin {post : Int32 → St0 → Prop} {mc ms kc ks : Nat} {x0 x1 x6 x9 x10 z D : Int32} (hv : ∀ q : Int32 → Prop, q D → wpX_value q (nc, co, so, pl, ce, hd, ac, sc, a1, a2, a3, a4, a5, a6, a7, a8, a9, a10, a11) 0) (h0 : x6 = 0 → D = 0) (h1 : ¬ x6 = 0 → x0 = 0 → D = x10)
    (h2 : ¬ x6 = 0 → x0 = 1 → D = x1) (h3 : ¬ x6 = 0 → ¬ x0 = 0 → ¬ x0 = 1 → D = 0) (hs0 : x9 = 0 → sc = 1) (hs1 : ¬ x9 = 0 → sc = 0) (hp : post 1 ()) : wL_lawOf_392 post mc ms x0 x1 x6 x9 x10 z z kc ks nc co so pl ce hd ac sc a1 a2 a3 a4 a5 a6 a7 a8 a9 a10 a11 := by
  have key : ∀ z0, D = z0 → wL_lawOf_426 post mc ms x9 z0 kc ks nc co so pl ce hd ac sc a1 a2 a3 a4 a5 a6 a7 a8 a9 a10 a11 := by
    intro z0 e
    unfold wL_lawOf_426
    refine hv _ (br_t e ?_)
    unfold wpX_samples
    dsimp only
    exact br_c (fun a => br_t (hs0 a) hp) (fun a => br_t (hs1 a) hp)
  have k411 : (¬ x6 = 0 → ¬ x0 = 0) → wL_lawOf_411 post mc ms x0 x1 x6 x9 kc ks nc co so pl ce hd ac sc a1 a2 a3 a4 a5 a6 a7 a8 a9 a10 a11 := by
    intro hx
    unfold wL_lawOf_411
    exact br_c (fun a => key 0 (h0 a)) (fun a => br_c (fun b => key _ (h2 a b)) (fun b => key 0 (h3 a (hx a) b)))
  unfold wL_lawOf_392
  exact br_t rfl (br_c (fun a => k411 (fun z => absurd a z)) (fun a => br_c (fun b => key _ (h1 a b)) (fun b => k411 (fun _ => b))))
theorem qd_end_0 {post : Int32 → St0 → Prop} {mc ms kc ks : Nat} {x0 x1 x5 y z : Int32} (hy : qd_clamp x5 y) (hp : post 1 ()) :
    wL_lawOf_350 post mc ms x0 x1 x5 0 0 y z z kc ks 0 0 so pl ce hd 0 0 a1 a2 a3 a4 a5 a6 a7 a8 a9 a10 a11 := by
  unfold wL_lawOf_350
  refine br_t rfl ?_
  unfold wpX_sound
  dsimp only
  refine qd_comp_0 ⟨qd_nb1, br_t rfl ?_⟩
  unfold wL_lawOf_370
  refine br_t rfl (qd_feed_1 hy ⟨1, br_t qd_00 (nm_r qd_e1 (br_t rfl ?_))⟩)
  exact qd_fin (D := 0) (fun q hq => qd_value_0 hq) (fun _ => rfl) (fun a => absurd rfl a) (fun a => absurd rfl a) (fun a => absurd rfl a) (fun _ => rfl) (fun a => absurd rfl a) hp
theorem qd_end_L {post : Int32 → St0 → Prop} {mc ms kc ks : Nat} {x0 x1 x5 y z : Int32} (hC : ∀ q : St2 → Prop, q (1, 1, 0, 0, 0, -1, ac, 0, a1, a2, a3, a4, a5, a6, a7, a8, a9, a10, a11) → wpX_compile q (1, 0, so, pl, ce, hd, ac, 0, a1, a2, a3, a4, a5, a6, a7, a8, a9, a10, a11))
    (hx0 : ¬ x0 = 0) (hx1 : ¬ x0 = 1) (hp : post 1 ()) : wL_lawOf_350 post mc ms x0 x1 x5 1 1 y z z kc ks 1 0 so pl ce hd ac 0 a1 a2 a3 a4 a5 a6 a7 a8 a9 a10 a11 := by
  unfold wL_lawOf_350
  refine br_t rfl ?_
  unfold wpX_sound
  dsimp only
  refine hC _ ⟨qd_nb0, br_f (by decide) ?_⟩
  unfold wL_lawOf_370
  refine br_t rfl (qd_feed_L (br_f (by decide) ?_))
  exact qd_fin (D := 0) (fun q hq => qd_value_L hq) (fun a => absurd a (by decide)) (fun _ b => absurd b hx0) (fun _ b => absurd b hx1) (fun _ _ _ => rfl) (fun a => absurd a (by decide)) (fun _ => rfl) hp
theorem qd_end_R {post : Int32 → St0 → Prop} {mc ms kc ks : Nat} {x0 x1 x5 y z D : Int32} (hy : qd_clamp x5 y)
    (hC : ∀ q : St2 → Prop, (∀ (pl ce hd : Int32) (a7 a8 a9 a10 : Nat → Int32),
      (∀ p : Int32 → St2 → Prop, (∀ (ac : Int64) (a11 : Nat → Int32), a11 0 = D → p 1 (1, 1, 1, pl, ce, hd, ac, 1, a1, a2, a3, a4, a5, a6, a7, a8, a9, a10, a11)) → ∃ fu, wX_feed_29 p fu 0 1 1 1 pl ce hd ac 0 a1 a2 a3 a4 a5 a6 a7 a8 a9 a10 (upd a11 41 y)) → q (1, 1, 1, pl, ce, hd, ac, 0, a1, a2, a3, a4, a5, a6, a7, a8, a9, a10, a11)) →
      wpX_compile q (1, 0, so, pl, ce, hd, ac, 0, a1, a2, a3, a4, a5, a6, a7, a8, a9, a10, a11))
    (h1 : x0 = 0 → D = y) (h2 : x0 = 1 → D = x1) (h3 : ¬ x0 = 0 → ¬ x0 = 1 → D = 0) (hp : post 1 ()) : wL_lawOf_350 post mc ms x0 x1 x5 1 0 y z z kc ks 1 0 so pl ce hd ac 0 a1 a2 a3 a4 a5 a6 a7 a8 a9 a10 a11 := by
  unfold wL_lawOf_350
  refine br_t rfl ?_
  unfold wpX_sound
  dsimp only
  refine hC _ (fun pl ce hd a7 a8 a9 a10 hr => ⟨qd_nb1, br_t rfl ?_⟩)
  unfold wL_lawOf_370
  refine br_t rfl (qd_feed_1 hy (hr _ (fun ac a11' hD => br_t rfl ?_)))
  exact qd_fin (D := D) (fun q hq => qd_value_1 hD hq) (fun a => absurd a (by decide)) (fun _ b => h1 b) (fun _ b => h2 b) (fun _ b c => h3 b c) (fun _ => rfl) (fun a => absurd rfl a) hp
end
end
section
section
variable {nc co so pl ce hd sc : Int32} {ac : Int64} {a1 a2 a3 a4 a5 a6 a7 a8 a9 a10 a11 : Nat → Int32}
def qd_fl (x : Int32) (P : Prop) : Prop := (x = 1 ∧ P) ∨ (x = 0 ∧ ¬ P)
/-- the law's last part over one node -/
theorem qd_350 {post : Int32 → St0 → Prop} {mc ms kc ks : Nat} {k a b t n : Nat} {x0 x1 x5 l y z : Int32} (hP : qd_P k a b t n a1 a2 a3 a4 a5) (hk : x0 = nI k) (hl : qd_fl l (qd_L k a b t n)) (hy : qd_clamp x5 y) (hc : k = 1 → a2 0 = x1) (hp : post 1 ()) :
    wL_lawOf_350 post mc ms x0 x1 x5 1 l y z z kc ks 1 0 so pl ce hd 0 0 a1 a2 a3 a4 a5 a6 a7 a8 a9 a10 qd_z := by
  subst hk
  have hk10 : k ≤ 10 := hP.1
  have e1 : a1 0 = nI k := hP.2.1
  have k0 : nI k = 0 ↔ k = 0 := nI_eq (b := 0) (by omega) (by omega)
  have k1 : nI k = 1 ↔ k = 1 := nI_eq (b := 1) (by omega) (by omega)
  have n2 : ¬ k = 2 → ¬ a1 0 = 2 := by
    intro h z
    rw [e1] at z
    exact h ((nI_eq (b := 2) (by omega) (by omega)).mp z)
  have z41 : ∀ j, j < 41 → upd qd_z 41 y j = 0 := fun j hj => pk_un (by omega)
  rcases hl with ⟨rfl, hL⟩ | ⟨rfl, hL⟩
  · have h3 : 3 ≤ k := by
      unfold qd_L at hL
      omega
    exact qd_end_L (fun q hq => qd_comp_L (n2 (by omega)) (fun q' hq' => qd_named hP (by omega) hq') hL hq) (fun e => absurd (k0.mp e) (by omega)) (fun e => absurd (k1.mp e) (by omega)) hp
  · by_cases h2 : k = 2
    · subst h2
      obtain ⟨ha, e2⟩ := hP.2.2.1 (by omega) (by omega)
      refine qd_end_R (D := 0) hy (fun q hq => qd_comp_d e1 ha e2 (fun m hd b8 b9 b10 hm hG => hq _ _ _ _ _ _ _ (fun p hp' => qd_run0 (by omega) hG z41 ?_))) (fun e => absurd (k0.mp e) (by omega)) (fun e => absurd (k1.mp e) (by omega)) (fun _ _ => rfl) hp
      exact hp' _ _ rfl
    · by_cases h3 : 3 ≤ k
      · refine qd_end_R (D := 0) hy (fun q hq => qd_comp_n (n2 h2) (fun q' hq' => qd_named hP h2 hq') hL (fun q' hq' => qd_node_g hP h3 hq') (fun ce hd b8 b9 b10 hQ => hq _ _ _ _ _ _ _ (fun p hp' => ?_))) (fun e => absurd (k0.mp e) (by omega)) (fun e => absurd (k1.mp e) (by omega)) (fun _ _ => rfl) hp
        obtain ⟨m, hm, rfl, hG⟩ := hQ
        exact qd_run0 (by omega) hG z41 (hp' _ _ rfl)
      · by_cases h0 : k = 0
        · subst h0
          refine qd_end_R (D := y) hy (fun q hq => qd_comp_n (n2 h2) (fun q' hq' => qd_named hP h2 hq') hL (fun q' hq' => qd_node_0 e1 hq') (fun ce hd b8 b9 b10 hQ => hq _ _ _ _ _ _ _ (fun p hp' => ?_))) (fun _ => rfl) (fun e => absurd (k1.mp e) (by omega)) (fun e => absurd rfl e) hp
          exact qd_run_0 hQ (fun ac => hp' _ _ rfl)
        · have h1 : k = 1 := by omega
          subst h1
          refine qd_end_R (D := a2 0) hy (fun q hq => qd_comp_n (n2 h2) (fun q' hq' => qd_named hP h2 hq') hL (fun q' hq' => qd_node_1 e1 hq') (fun ce hd b8 b9 b10 hQ => hq _ _ _ _ _ _ _ (fun p hp' => ?_))) (fun e => absurd (k0.mp e) (by omega)) (fun _ => hc rfl) (fun _ e => absurd rfl e) hp
          exact qd_run_1 hQ (fun ac => hp' _ _ rfl)
/-! node -/
def qd_ca (k a : Int32) : Prop := ¬ k < 2 → ¬ 9 < k → ¬ a < 0 ∧ ¬ 19 < a
def qd_cb (k b : Int32) : Prop := ¬ k < 3 → ¬ 5 < k → ¬ b < 0 ∧ ¬ 19 < b
def qd_c8 (k b : Int32) : Prop := k = 8 → ¬ b < 0 ∧ b ≤ 7
def qd_c9 (k b : Int32) : Prop := k = 9 → ¬ b < 0 ∧ b ≤ 15
def qd_c1 (k a : Int32) : Prop := k = 1 → ¬ a < -32768 ∧ a ≤ 32767
def qd_fit (k a b : Int32) : Prop := ¬ k < 0 ∧ k ≤ 10 ∧ qd_c1 k a ∧ qd_ca k a ∧ qd_cb k b ∧ qd_c8 k b ∧ qd_c9 k b
theorem qd_node_bad {post : Int32 → St2 → Prop} {k a b : Int32} (hn : nc < 20) (hf : ¬ qd_fit k a b) (hp : post (-1) (nc, co, so, pl, ce, hd, ac, sc, a1, a2, a3, a4, a5, a6, a7, a8, a9, a10, a11)) : wpX_node post (nc, co, so, pl, ce, hd, ac, sc, a1, a2, a3, a4, a5, a6, a7, a8, a9, a10, a11) k a b := by
  have n104 : ¬ qd_c9 k b → wX_node_104 post k a b nc co so pl ce hd ac sc a1 a2 a3 a4 a5 a6 a7 a8 a9 a10 a11 := by
    intro h
    exact br_c (fun e => br_c (fun _ => hp) (fun p => br_c (fun q => absurd (fun _ => ⟨p, q⟩) h) (fun _ => hp))) (fun e => absurd (fun z => absurd z e) h)
  have n86 : ¬ (qd_c8 k b ∧ qd_c9 k b) → wX_node_86 post k a b nc co so pl ce hd ac sc a1 a2 a3 a4 a5 a6 a7 a8 a9 a10 a11 := by
    intro h
    exact br_c (fun e => br_c (fun _ => hp) (fun p => br_c (fun q => n104 (fun c => h ⟨fun _ => ⟨p, q⟩, c⟩)) (fun _ => hp))) (fun e => n104 (fun c => h ⟨fun z => absurd z e, c⟩))
  have n66 : ¬ (qd_cb k b ∧ qd_c8 k b ∧ qd_c9 k b) → wX_node_66 post k a b nc co so pl ce hd ac sc a1 a2 a3 a4 a5 a6 a7 a8 a9 a10 a11 := by
    intro h
    refine br_c (fun e => n86 (fun c => h ⟨fun z => absurd e z, c⟩)) (fun e => br_c (fun e' => n86 (fun c => h ⟨fun _ z => absurd e' z, c⟩)) (fun e' => ?_))
    unfold wpX_isNumber
    dsimp only
    exact br_c (fun _ => br_t rfl hp) (fun p => br_c (fun _ => br_t rfl hp) (fun q => br_f (by decide) (n86 (fun c => h ⟨fun _ _ => ⟨p, q⟩, c⟩))))
  have n45 : ¬ (qd_ca k a ∧ qd_cb k b ∧ qd_c8 k b ∧ qd_c9 k b) → wX_node_45 post k a b nc co so pl ce hd ac sc a1 a2 a3 a4 a5 a6 a7 a8 a9 a10 a11 := by
    intro h
    refine br_c (fun e => n66 (fun c => h ⟨fun z => absurd e z, c⟩)) (fun e => br_c (fun e' => n66 (fun c => h ⟨fun _ z => absurd e' z, c⟩)) (fun e' => ?_))
    unfold wpX_isNumber
    dsimp only
    exact br_c (fun _ => br_t rfl hp) (fun p => br_c (fun _ => br_t rfl hp) (fun q => br_f (by decide) (n66 (fun c => h ⟨fun _ _ => ⟨p, q⟩, c⟩))))
  unfold wpX_node
  dsimp only
  exact br_t hn (br_c (fun _ => hp) (fun e1 => br_c (fun e2 => br_c (fun e => br_c (fun _ => hp) (fun p => br_c (fun q => n45 (fun c => hf ⟨e1, e2, fun _ => ⟨p, q⟩, c⟩)) (fun _ => hp))) (fun e => n45 (fun c => hf ⟨e1, e2, fun z => absurd z e, c⟩))) (fun _ => hp)))
theorem qd_node_ok {post : Int32 → St2 → Prop} {k a b : Int32} (hf : qd_fit k a b)
    (hp : post 0 (1, 0, so, pl, ce, hd, ac, 0, upd a1 0 k.toInt8.toInt32, upd a2 0 a, upd a3 0 b.toInt8.toInt32, upd a4 0 0, a5, a6, a7, a8, a9, a10, qd_z)) : wpX_node post (0, co, so, pl, ce, hd, ac, sc, a1, a2, a3, a4, a5, a6, a7, a8, a9, a10, qd_z) k a b := by
  obtain ⟨f1, f2, c1, ca, cb, c8, c9⟩ := hf
  have e0 : (0 : Int32).toNatClampNeg = 0 := by decide
  have n122 : wX_node_122 post k a b 0 co so pl ce hd ac sc a1 a2 a3 a4 a5 a6 a7 a8 a9 a10 qd_z := by
    unfold wX_node_122
    rw [e0]
    exact ⟨qd_v0, nm_e ⟨qd_v0, nm_e ⟨qd_v0, nm_e ⟨qd_v0, nm_e (nm_r qd_e1 (qd_restart hp))⟩⟩⟩⟩
  have n104 : wX_node_104 post k a b 0 co so pl ce hd ac sc a1 a2 a3 a4 a5 a6 a7 a8 a9 a10 qd_z := br_c (fun e => br_f (c9 e).1 (br_t (c9 e).2 n122)) (fun _ => n122)
  have n86 : wX_node_86 post k a b 0 co so pl ce hd ac sc a1 a2 a3 a4 a5 a6 a7 a8 a9 a10 qd_z := br_c (fun e => br_f (c8 e).1 (br_t (c8 e).2 n104)) (fun _ => n104)
  have n66 : wX_node_66 post k a b 0 co so pl ce hd ac sc a1 a2 a3 a4 a5 a6 a7 a8 a9 a10 qd_z := by
    refine br_c (fun _ => n86) (fun e => br_c (fun _ => n86) (fun e' => ?_))
    unfold wpX_isNumber
    dsimp only
    exact br_f (cb e e').1 (br_f (cb e e').2 (br_f (by decide) n86))
  have n45 : wX_node_45 post k a b 0 co so pl ce hd ac sc a1 a2 a3 a4 a5 a6 a7 a8 a9 a10 qd_z := by
    refine br_c (fun _ => n66) (fun e => br_c (fun _ => n66) (fun e' => ?_))
    unfold wpX_isNumber
    dsimp only
    exact br_f (ca e e').1 (br_f (ca e e').2 (br_f (by decide) n66))
  unfold wpX_node
  dsimp only
  exact br_t (by decide) (br_f f1 (br_t f2 (br_c (fun e => br_f (c1 e).1 (br_t (c1 e).2 n45)) (fun _ => n45))))
/-! tap -/
def qd_T (k s a f : Int32) : Prop := k = 10 ∧ s = 0 ∧ (¬ a < 0 ∧ ¬ 19 < a) ∧ ¬ f < -32768 ∧ f ≤ 32767
theorem qd_tap_0 {post : Int32 → St2 → Prop} {s a f : Int32} (hp : post (-1) (0, co, so, pl, ce, hd, ac, sc, a1, a2, a3, a4, a5, a6, a7, a8, a9, a10, a11)) : wpX_tap post (0, co, so, pl, ce, hd, ac, sc, a1, a2, a3, a4, a5, a6, a7, a8, a9, a10, a11) s a f := by
  unfold wpX_tap
  dsimp only
  exact br_c (fun _ => hp) (fun h => br_t (Int32.not_lt.mp h) hp)
theorem qd_is0 {s : Int32} (h : ¬ s < 0) (h' : ¬ 1 ≤ s) : s = 0 := by
  rw [Int32.lt_iff_toInt_lt, show (0 : Int32).toInt = 0 from by decide] at h
  rw [Int32.le_iff_toInt_le, show (1 : Int32).toInt = 1 from by decide] at h'
  apply Int32.toInt_inj.mp
  rw [show (0 : Int32).toInt = 0 from by decide]
  omega
theorem qd_tap_bad {post : Int32 → St2 → Prop} {k s a f : Int32} (e1 : a1 0 = k) (hT : ¬ qd_T k s a f) (hp : post (-1) (1, co, so, pl, ce, hd, ac, sc, a1, a2, a3, a4, a5, a6, a7, a8, a9, a10, a11)) : wpX_tap post (1, co, so, pl, ce, hd, ac, sc, a1, a2, a3, a4, a5, a6, a7, a8, a9, a10, a11) s a f := by
  unfold wpX_tap
  dsimp only
  refine br_c (fun _ => hp) (fun h => br_c (fun _ => hp) (fun h' => ?_))
  have hs := qd_is0 h h'
  subst hs
  refine ⟨qd_v0, br_c (fun h10 => ?_) (fun _ => hp)⟩
  have e10 : k = 10 := e1 ▸ h10
  unfold wpX_isNumber
  dsimp only
  exact br_c (fun _ => br_t rfl hp) (fun p => br_c (fun _ => br_t rfl hp) (fun q => br_f (by decide) (br_c (fun _ => hp) (fun u => br_c (fun v => absurd ⟨e10, rfl, ⟨p, q⟩, u, v⟩ hT) (fun _ => hp)))))
theorem qd_tap_ok {post : Int32 → St2 → Prop} {k s a f : Int32} (e1 : a1 0 = k) (e4 : a4 0 = 0) (hT : qd_T k s a f)
    (hp : post 1 (1, 0, so, pl, ce, hd, ac, 0, a1, a2, a3, upd a4 0 1, upd a5 0 a.toInt8.toInt32, upd a6 0 f, a7, a8, a9, a10, qd_z)) : wpX_tap post (1, co, so, pl, ce, hd, ac, sc, a1, a2, a3, a4, a5, a6, a7, a8, a9, a10, qd_z) s a f := by
  obtain ⟨rfl, rfl, ⟨p, q⟩, u, v⟩ := hT
  have e0 : (0 : Int32).toNatClampNeg = 0 := by decide
  have e6 : (6 : Int32) * 0 + 0 = 0 := by decide
  have v120 : vp_in 0 120 := pk_in 0 120 (by omega)
  unfold wpX_tap
  dsimp only
  rw [e0, e1, e4]
  refine br_f (by decide) (br_f (by decide) ⟨qd_v0, br_t rfl ?_⟩)
  unfold wpX_isNumber
  dsimp only
  refine br_f p (br_f q (br_f (by decide) (br_f u (br_t v ⟨qd_v0, br_t (by decide) ⟨qd_v0, nm_r e6 ⟨v120, nm_e ⟨v120, nm_e ⟨qd_v0, qd_v0, nm_r (e' := upd a4 0 1) (by rw [show ((0 : Int32) + 1).toInt8.toInt32 = 1 from by decide]) (qd_restart ?_)⟩⟩⟩⟩⟩))))
  exact ⟨qd_v0, hp⟩
end
end
section
section
variable {post : Int32 → St0 → Prop} {mc ms kc ks : Nat} {k a b s f x w t p l z : Int32}
theorem qd_fl_ne {P : Prop} (h : qd_fl z P) : ¬ z = 0 ↔ P := by
  rcases h with ⟨rfl, h⟩ | ⟨rfl, h⟩
  · exact ⟨fun _ => h, fun _ => by decide⟩
  · exact ⟨fun e => absurd rfl e, fun e => absurd e h⟩
theorem qd_fl_01 {P : Prop} (h : qd_fl z P) : z = 0 ∨ z = 1 := by
  rcases h with ⟨h, _⟩ | ⟨h, _⟩
  · exact Or.inr h
  · exact Or.inl h
theorem qd_fl_c {P Q : Prop} (h : qd_fl z P) (e : P ↔ Q) : qd_fl z Q := by
  rcases h with ⟨h, g⟩ | ⟨h, g⟩
  · exact Or.inl ⟨h, e.mp g⟩
  · exact Or.inr ⟨h, fun q => g (e.mpr q)⟩
theorem qd_fl_k {P : Prop} (h : z = 0 ∨ z = 1) (hP : P) : qd_fl z (¬ z = 0 ∧ P) := by
  rcases h with rfl | rfl
  · exact Or.inr ⟨rfl, fun e => e.1 rfl⟩
  · exact Or.inl ⟨rfl, by decide, hP⟩
theorem qd_fl_0 {P : Prop} (h : ¬ P) : qd_fl 0 P := Or.inr ⟨rfl, h⟩
theorem qd_fl_1 {P : Prop} (h : P) : qd_fl 1 P := Or.inl ⟨rfl, h⟩
theorem qd_l265 (H : ∀ y, qd_clamp x y → wL_lawOf_297 post mc ms k a b s f x w t l y kc ks) : wL_lawOf_265 post mc ms k a b s f x w t l kc ks :=
  br_c (fun h => br_c (fun h' => H x (Or.inr (Or.inr ⟨Int32.not_lt.mpr h, Int32.not_lt.mpr h', rfl⟩))) (fun h' => H (-32768) (Or.inr (Or.inl ⟨Int32.not_le.mp h', rfl⟩)))) (fun h => H 32767 (Or.inl ⟨Int32.not_le.mp h, rfl⟩))
theorem qd_l244 (H : ∀ l, qd_fl l (¬ p = 0 ∨ (¬ t = 0 ∧ a = 0)) → wL_lawOf_265 post mc ms k a b s f x w t l kc ks) : wL_lawOf_244 post mc ms k a b s f x w t p kc ks :=
  br_c (fun h => br_c (fun h' => H 0 (qd_fl_0 (fun e => e.elim (fun e => e h) (fun e => e.1 h')))) (fun h' => br_c (fun g => H 1 (qd_fl_1 (Or.inr ⟨h', g⟩))) (fun g => H 0 (qd_fl_0 (fun e => e.elim (fun e => e h) (fun e => g e.2)))))) (fun h => H 1 (qd_fl_1 (Or.inl h)))
theorem qd_l208 (H : ∀ p, qd_fl p (¬ w = 0 ∧ ¬ k < 3 ∧ ¬ 9 < k ∧ (a = 0 ∨ (¬ z = 0 ∧ b = 0))) → wL_lawOf_244 post mc ms k a b s f x w t p kc ks) : wL_lawOf_208 post mc ms k a b s f x w z t kc ks :=
  br_c (fun h => H 0 (qd_fl_0 (fun e => e.1 h))) (fun h => br_c (fun g => H 0 (qd_fl_0 (fun e => e.2.1 g))) (fun g => br_c (fun i => H 0 (qd_fl_0 (fun e => e.2.2.1 i))) (fun i => br_c (fun j => H 1 (qd_fl_1 ⟨h, g, i, Or.inl j⟩)) (fun j =>
    br_c (fun m => H 0 (qd_fl_0 (fun e => e.2.2.2.elim j (fun e => e.1 m)))) (fun m => br_c (fun n => H 1 (qd_fl_1 ⟨h, g, i, Or.inr ⟨m, n⟩⟩)) (fun n => H 0 (qd_fl_0 (fun e => e.2.2.2.elim j (fun e => n e.2)))))))))
theorem qd_l163 (H : ∀ t, qd_fl t (¬ w = 0 ∧ qd_T k s a f) → wL_lawOf_208 post mc ms k a b s f x w z t kc ks) : wL_lawOf_163 post mc ms k a b s f x w z kc ks :=
  br_c (fun h => H 0 (qd_fl_0 (fun e => e.1 h))) (fun h => br_c (fun g => br_c (fun i =>
    br_c (fun j => br_t rfl (H 0 (qd_fl_0 (fun e => e.2.2.2.1.1 j)))) (fun j => br_c (fun m => br_t rfl (H 0 (qd_fl_0 (fun e => e.2.2.2.1.2 m)))) (fun m => br_f (by decide)
      (br_c (fun n => H 0 (qd_fl_0 (fun e => e.2.2.2.2.1 n))) (fun n => br_c (fun o => H 0 (qd_fl_0 (fun e => Int32.not_lt.mpr e.2.2.2.2.2 o))) (fun o => H 1 (qd_fl_1 ⟨h, g, i, ⟨j, m⟩, n, Int32.not_lt.mp o⟩)))))))
    (fun i => H 0 (qd_fl_0 (fun e => i e.2.2.1)))) (fun g => H 0 (qd_fl_0 (fun e => g e.2.1))))
theorem qd_l148 (H : ∀ z, qd_fl z (¬ k < 3 ∧ ¬ 5 < k) → wL_lawOf_163 post mc ms k a b s f x w z kc ks) : wL_lawOf_148 post mc ms k a b s f x w kc ks :=
  br_c (fun h => H 0 (qd_fl_0 (fun e => e.1 h))) (fun h => br_c (fun g => H 0 (qd_fl_0 (fun e => e.2 g))) (fun g => H 1 (qd_fl_1 ⟨h, g⟩)))
theorem qd_l120 (h01 : w = 0 ∨ w = 1) (H : ∀ w', qd_fl w' (¬ w = 0 ∧ qd_c9 k b) → wL_lawOf_148 post mc ms k a b s f x w' kc ks) : wL_lawOf_120 post mc ms k a b s f x w kc ks :=
  br_c (fun h => br_c (fun g => H 0 (qd_fl_0 (fun e => e.1 g))) (fun g => br_c (fun i => H 0 (qd_fl_0 (fun e => (e.2 h).1 i))) (fun i => br_c (fun j => H 0 (qd_fl_0 (fun e => Int32.not_lt.mpr (e.2 h).2 j))) (fun j => H 1 (qd_fl_1 ⟨g, fun _ => ⟨i, Int32.not_lt.mp j⟩⟩)))))
    (fun h => H w (qd_fl_k h01 (fun e => absurd e h)))
theorem qd_l92 (h01 : w = 0 ∨ w = 1) (H : ∀ w', qd_fl w' (¬ w = 0 ∧ qd_c8 k b) → wL_lawOf_120 post mc ms k a b s f x w' kc ks) : wL_lawOf_92 post mc ms k a b s f x w kc ks :=
  br_c (fun h => br_c (fun g => H 0 (qd_fl_0 (fun e => e.1 g))) (fun g => br_c (fun i => H 0 (qd_fl_0 (fun e => (e.2 h).1 i))) (fun i => br_c (fun j => H 0 (qd_fl_0 (fun e => Int32.not_lt.mpr (e.2 h).2 j))) (fun j => H 1 (qd_fl_1 ⟨g, fun _ => ⟨i, Int32.not_lt.mp j⟩⟩)))))
    (fun h => H w (qd_fl_k h01 (fun e => absurd e h)))
theorem qd_l63 (h01 : w = 0 ∨ w = 1) (H : ∀ w', qd_fl w' (¬ w = 0 ∧ qd_cb k b) → wL_lawOf_92 post mc ms k a b s f x w' kc ks) : wL_lawOf_63 post mc ms k a b s f x w kc ks :=
  br_c (fun h => H w (qd_fl_k h01 (fun e => absurd h e))) (fun h => br_c (fun g => H w (qd_fl_k h01 (fun _ e => absurd g e))) (fun g => br_c (fun i => H 0 (qd_fl_0 (fun e => e.1 i))) (fun i =>
    br_c (fun j => br_t rfl (H 0 (qd_fl_0 (fun e => (e.2 h g).1 j)))) (fun j => br_c (fun m => br_t rfl (H 0 (qd_fl_0 (fun e => (e.2 h g).2 m)))) (fun m => br_f (by decide) (H 1 (qd_fl_1 ⟨i, fun _ _ => ⟨j, m⟩⟩)))))))
theorem qd_ge0 (h : ¬ k < 2) : ¬ k < 0 := by
  rw [Int32.lt_iff_toInt_lt, show (2 : Int32).toInt = 2 from by decide] at h
  rw [Int32.lt_iff_toInt_lt, show (0 : Int32).toInt = 0 from by decide]
  omega
theorem qd_le10 (h : ¬ 9 < k) : k ≤ 10 := by
  rw [Int32.lt_iff_toInt_lt, show (9 : Int32).toInt = 9 from by decide] at h
  rw [Int32.le_iff_toInt_le, show (10 : Int32).toInt = 10 from by decide]
  omega
def qd_fa (k a : Int32) : Prop := ¬ k < 0 ∧ k ≤ 10 ∧ qd_c1 k a ∧ qd_ca k a
theorem qd_l15 (hz : qd_fl z (¬ k < 0 ∧ ¬ 10 < k)) (H : ∀ w', qd_fl w' (qd_fa k a) → wL_lawOf_63 post mc ms k a b s f x w' kc ks) : wL_lawOf_15 post mc ms k a b s f x z kc ks := by
  refine br_c (fun h => ?_) (fun h => br_c (fun g => ?_) (fun g => br_c (fun i => ?_) (fun i => ?_)))
  · subst h
    exact br_c (fun p => H 0 (qd_fl_0 (fun e => (e.2.2.1 rfl).1 p))) (fun p => br_c (fun q => H 0 (qd_fl_0 (fun e => Int32.not_lt.mpr (e.2.2.1 rfl).2 q))) (fun q => H 1 (qd_fl_1 ⟨by decide, by decide, fun _ => ⟨p, Int32.not_lt.mp q⟩, fun e => absurd (by decide) e⟩)))
  · exact H z (qd_fl_c hz ⟨fun e => ⟨e.1, Int32.not_lt.mp e.2, fun e => absurd e h, fun e => absurd g e⟩, fun e => ⟨e.1, Int32.not_lt.mpr e.2.1⟩⟩)
  · exact H z (qd_fl_c hz ⟨fun e => ⟨e.1, Int32.not_lt.mp e.2, fun e => absurd e h, fun _ e => absurd i e⟩, fun e => ⟨e.1, Int32.not_lt.mpr e.2.1⟩⟩)
  · exact br_c (fun p => H 0 (qd_fl_0 (fun e => (e.2.2.2 g i).1 p))) (fun p => br_c (fun q => H 0 (qd_fl_0 (fun e => (e.2.2.2 g i).2 q))) (fun q => H 1 (qd_fl_1 ⟨qd_ge0 g, qd_le10 i, fun e => absurd e h, fun _ _ => ⟨p, q⟩⟩)))
/-- the law's loop -/
def qd_Lp (k a b s f : Int32) : Prop := (qd_fit k a b ∧ ¬ k < 3 ∧ ¬ 9 < k ∧ (a = 0 ∨ ((¬ k < 3 ∧ ¬ 5 < k) ∧ b = 0))) ∨ ((qd_fit k a b ∧ qd_T k s a f) ∧ a = 0)
theorem qd_lawOf (H : ∀ w t l y, qd_fl w (qd_fit k a b) → qd_fl t (qd_fit k a b ∧ qd_T k s a f) → qd_fl l (qd_Lp k a b s f) → qd_clamp x y → wL_lawOf_297 post mc ms k a b s f x w t l y 0 0) : wpL_lawOf post mc ms () k a b s f x := by
  have A : ∀ z, qd_fl z (¬ k < 0 ∧ ¬ 10 < k) → wL_lawOf_15 post mc ms k a b s f x z 0 0 := by
    intro z hz
    refine qd_l15 hz (fun w1 h1 => qd_l63 (qd_fl_01 h1) (fun w2 h2 => qd_l92 (qd_fl_01 h2) (fun w3 h3 => qd_l120 (qd_fl_01 h3) (fun w h4 => ?_))))
    have hw : qd_fl w (qd_fit k a b) := by
      refine qd_fl_c h4 ?_
      rw [qd_fl_ne h3, qd_fl_ne h2, qd_fl_ne h1]
      exact ⟨fun ⟨⟨⟨⟨q1, q2, q3, q4⟩, q5⟩, q6⟩, q7⟩ => ⟨q1, q2, q3, q4, q5, q6, q7⟩, fun ⟨q1, q2, q3, q4, q5, q6, q7⟩ => ⟨⟨⟨⟨q1, q2, q3, q4⟩, q5⟩, q6⟩, q7⟩⟩
    refine qd_l148 (fun z hz => qd_l163 (fun t ht => qd_l208 (fun p hp => qd_l244 (fun l hl => qd_l265 (fun y hy => H w t l y hw ?_ ?_ hy)))))
    · rw [qd_fl_ne hw] at ht
      exact ht
    · refine qd_fl_c hl ?_
      rw [qd_fl_ne hp, qd_fl_ne ht, qd_fl_ne hw, qd_fl_ne hz]
      exact Iff.rfl
  exact br_c (fun h => A 0 (qd_fl_0 (fun e => e.1 h))) (fun h => br_c (fun g => A 0 (qd_fl_0 (fun e => e.2 g))) (fun g => A 1 (qd_fl_1 ⟨h, g⟩)))
end
end
section
section
theorem qd_cl {a : Int32} (h : ¬ a < 0) : a = nI a.toNatClampNeg := by
  obtain ⟨j, hj, rfl⟩ := nI_of h
  rw [nI_clamp hj]
theorem qd_cl0 {a : Int32} (h : ¬ a < 0) : a = 0 ↔ a.toNatClampNeg = 0 := by
  obtain ⟨j, hj, rfl⟩ := nI_of h
  rw [nI_clamp hj]
  exact nI_eq (b := 0) hj (by omega)
theorem qd_cl20 {a : Int32} (h : ¬ a < 0) (h' : ¬ 19 < a) : a.toNatClampNeg < 20 := by
  obtain ⟨j, hj, rfl⟩ := nI_of h
  rw [nI_clamp hj]
  rcases Nat.lt_or_ge j 20 with z | z
  · exact z
  · exact absurd (nI_lt (a := 19) (by omega) hj) h'
theorem qd_clb {a : Int32} (h : ¬ a < 0) (h' : ¬ 19 < a) : a.toInt8.toInt32 = nI a.toNatClampNeg := by
  have e := qd_b8 a.toNatClampNeg (by have := qd_cl20 h h'; omega)
  rw [← qd_cl h] at e
  rw [e]
  exact qd_cl h
theorem qd_Lp_iff {k a b s f : Int32} {m t : Nat} (hf : qd_fit k a b) (hk : k = nI m) (hm : m ≤ 10) (ht : (t = 1 ∧ qd_T k s a f) ∨ (t = 0 ∧ ¬ qd_T k s a f)) : qd_Lp k a b s f ↔ qd_L m a.toNatClampNeg b.toNatClampNeg t a.toNatClampNeg := by
  have f0 := hf
  obtain ⟨_, _, _, ca, cb, _, _⟩ := hf
  have k2 : k < 2 ↔ m < 2 := by rw [hk]; exact nI_ltI (b := 2) (by omega) (by omega)
  have k3 : k < 3 ↔ m < 3 := by rw [hk]; exact nI_ltI (b := 3) (by omega) (by omega)
  have k5 : 5 < k ↔ 5 < m := by rw [hk]; exact nI_ltI (a := 5) (by omega) (by omega)
  have k9 : 9 < k ↔ 9 < m := by rw [hk]; exact nI_ltI (a := 9) (by omega) (by omega)
  have k10 : k = 10 ↔ m = 10 := by rw [hk]; exact nI_eq (b := 10) (by omega) (by omega)
  unfold qd_ca at ca
  unfold qd_cb at cb
  unfold qd_Lp qd_L
  rw [k2, k9] at ca
  rw [k3, k5] at cb
  rw [k3, k5, k9]
  constructor
  · rintro (⟨_, g3, g9, ha | ⟨⟨_, g5⟩, hb⟩⟩ | ⟨⟨_, hT⟩, ha⟩)
    · exact Or.inl ⟨by omega, by omega, (qd_cl0 (ca (by omega) (by omega)).1).mp ha⟩
    · exact Or.inr (Or.inl ⟨by omega, by omega, (qd_cl0 (cb (by omega) (by omega)).1).mp hb⟩)
    · refine Or.inr (Or.inr ⟨k10.mp hT.1, ht.elim (fun e => e.1) (fun e => absurd hT e.2), (qd_cl0 hT.2.2.1.1).mp ha⟩)
  · rintro (⟨g3, g9, ha⟩ | ⟨g3, g5, hb⟩ | ⟨g10, ht1, ha⟩)
    · exact Or.inl ⟨f0, by omega, by omega, Or.inl ((qd_cl0 (ca (by omega) (by omega)).1).mpr ha)⟩
    · exact Or.inl ⟨f0, by omega, by omega, Or.inr ⟨⟨by omega, by omega⟩, (qd_cl0 (cb (by omega) (by omega)).1).mpr hb⟩⟩
    · have hT : qd_T k s a f := ht.elim (fun e => e.2) (fun e => absurd e.1 (by omega))
      exact Or.inr ⟨⟨f0, hT⟩, (qd_cl0 hT.2.2.1.1).mpr ha⟩
theorem qd_297 {post : Int32 → St0 → Prop} {k a b s f x w t l y : Int32} (hw : qd_fl w (qd_fit k a b)) (ht : qd_fl t (qd_fit k a b ∧ qd_T k s a f)) (hl : qd_fl l (qd_Lp k a b s f)) (hy : qd_clamp x y) (hp : post 1 ()) :
    wL_lawOf_297 post 378 6032 k a b s f x w t l y 0 0 := by
  unfold wL_lawOf_297
  refine ⟨by omega, by omega, 11, 1282, by omega, by omega, ?_⟩
  unfold wpX_init
  dsimp only
  refine ⟨by omega, by omega, by omega, by omega, by omega, by omega, by omega, by omega, by omega, by omega, by omega, by omega, by omega, by omega, by omega, by omega, by omega, by omega, by omega, by omega, by omega, by omega, ?_⟩
  rcases hw with ⟨rfl, hf⟩ | ⟨rfl, hf⟩
  · have f0 := hf
    obtain ⟨f1, f2, c1, ca, cb, c8, c9⟩ := hf
    obtain ⟨m, hm, hk⟩ := nI_of2 (M := 10) (n := 10) (by decide) f1 f2
    have k2 : k < 2 ↔ m < 2 := by rw [hk]; exact nI_ltI (b := 2) (by omega) (by omega)
    have k3 : k < 3 ↔ m < 3 := by rw [hk]; exact nI_ltI (b := 3) (by omega) (by omega)
    have k5 : 5 < k ↔ 5 < m := by rw [hk]; exact nI_ltI (a := 5) (by omega) (by omega)
    have k9 : 9 < k ↔ 9 < m := by rw [hk]; exact nI_ltI (a := 9) (by omega) (by omega)
    have k8 : k.toInt8.toInt32 = nI m := by
      rw [hk]
      exact qd_b8 m (by omega)
    have PA : 2 ≤ m → m ≤ 9 → a.toNatClampNeg < 20 ∧ a = nI a.toNatClampNeg := fun g g' => by
      obtain ⟨u, v⟩ := ca (by rw [k2]; omega) (by rw [k9]; omega)
      exact ⟨qd_cl20 u v, qd_cl u⟩
    have PB : 3 ≤ m → m ≤ 5 → b.toNatClampNeg < 20 ∧ b.toInt8.toInt32 = nI b.toNatClampNeg := fun g g' => by
      obtain ⟨u, v⟩ := cb (by rw [k3]; omega) (by rw [k5]; omega)
      exact ⟨qd_cl20 u v, qd_clb u v⟩
    refine qd_node_ok f0 (br_f (by decide) ?_)
    dsimp only
    unfold wL_lawOf_326
    refine br_t rfl ?_
    rcases ht with ⟨rfl, ht⟩ | ⟨rfl, ht⟩
    · obtain ⟨u, v⟩ := ht.2.2.2.1
      refine qd_tap_ok (k := k) (by rw [pk_us, k8, hk]) pk_us ht.2 (br_f (by decide) ?_)
      exact qd_350 (k := m) (a := a.toNatClampNeg) (b := b.toNatClampNeg) (t := 1) (n := a.toNatClampNeg) ⟨hm, by rw [pk_us]; exact k8, by rw [pk_us]; exact PA, by rw [pk_us]; exact PB, by omega, pk_us, fun _ => ⟨qd_cl20 u v, by rw [pk_us]; exact qd_clb u v⟩⟩ hk
        (qd_fl_c hl (qd_Lp_iff f0 hk hm (Or.inl ⟨rfl, ht.2⟩))) hy (fun _ => pk_us) hp
    · have hT : ¬ qd_T k s a f := fun e => ht ⟨f0, e⟩
      refine qd_tap_bad (k := k) (by rw [pk_us, k8, hk]) hT (br_t rfl ?_)
      exact qd_350 (k := m) (a := a.toNatClampNeg) (b := b.toNatClampNeg) (t := 0) (n := a.toNatClampNeg) ⟨hm, by rw [pk_us]; exact k8, by rw [pk_us]; exact PA, by rw [pk_us]; exact PB, by omega, pk_us, fun z => absurd z (by omega)⟩ hk
        (qd_fl_c hl (qd_Lp_iff f0 hk hm (Or.inr ⟨rfl, hT⟩))) hy (fun _ => pk_us) hp
  · have t0 : t = 0 := by
      rcases ht with ⟨_, e⟩ | ⟨e, _⟩
      · exact absurd e.1 hf
      · exact e
    have l0 : l = 0 := by
      rcases hl with ⟨_, e | e⟩ | ⟨e, _⟩
      · exact absurd e.1 hf
      · exact absurd e.1.1 hf
      · exact e
    subst t0 l0
    refine qd_node_bad (by decide) hf (br_t rfl ?_)
    unfold wL_lawOf_326
    exact br_t rfl (qd_tap_0 (br_t rfl (qd_end_0 hy hp)))
theorem qd_cell {post : Int32 → Prop} {L : Nat} {xs : Nat → Int32} {i : Nat} {p : Int32} (hL : L ≤ 6) (hi : i < 6) (e : p = nI i) (hp : ∀ r, post r) : wpL_cellAt post L xs () p :=
  pk_le L i (fun _ => hp _) (fun h => ⟨pk_in i L h e, hp _⟩) rfl e
end
theorem i_vc (xs : Nat → Int32) (L : Nat) (hL : L ≤ 6) : wpL_law (fun r => r = 1) L xs :=
  qd_cell (i := 0) hL (by omega) rfl (fun _ => qd_cell (i := 1) hL (by omega) rfl (fun _ => qd_cell (i := 2) hL (by omega) rfl (fun _ => qd_cell (i := 3) hL (by omega) rfl (fun _ => qd_cell (i := 4) hL (by omega) rfl (fun _ => qd_cell (i := 5) hL (by omega) rfl (fun _ =>
    ⟨378, 6032, by omega, by omega, qd_lawOf (fun _ _ _ _ hw ht hl hy => qd_297 hw ht hl hy rfl)⟩))))))
end
