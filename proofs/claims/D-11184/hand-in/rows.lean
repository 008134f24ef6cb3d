section
/-! pure pictures: what each loop of the class computes, and the tables of the four tokens -/
/-- bit n of a set, as the code asks for it -/
def ph_bit (s : Int32) (n : Nat) : Int32 := (s >>> (nI n &&& 31)) &&& 1
def ph_great (s : Int32) : Nat → Int32
  | 0 => -1
  | n + 1 => if ph_bit s n = 0 then ph_great s n else nI n
def ph_go (p : Int32) (d : Nat) (q : Nat → Int32) : Nat → Int32
  | 0 => 0
  | e + 1 => if ph_bit p e = 0 then ph_go p d q e else ph_go p d q e ||| q (e + d)
def ph_ones (s : Int32) : Nat → Int32
  | 0 => 0
  | n + 1 => ph_ones s n + ph_bit s n
def ph_sum (r : Nat → Int32) : Nat → Int32
  | 0 => 0
  | n + 1 => ph_sum r n + ph_ones (r n) 24
def ph_fst (r : Nat → Int32) : Nat → Nat → Int32
  | 0, _ => -1
  | n + 1, i => if r i = 0 then ph_fst r n (i + 1) else nI i
def ph_far (q : Nat → Int32) : Nat → Int32
  | 0 => -1
  | n + 1 => if ph_great (q n) 24 ≤ ph_far q n then ph_far q n else ph_great (q n) 24
def ph_w (m : Int32) (b : Nat) : Int32 := m &&& ((1 : Int32) <<< (nI b &&& 31))
def ph_upTo (e : Int32) : Int32 := ((1 : Int32) <<< ((e + 1) &&& 31)) - 1
/-- the row that combine leaves, for the law's kinds 0 (ONE_OF), 1, 2 (THEN at 0, at 1), 3 (WITHIN) -/
def ph_row (k : Nat) (p q : Nat → Int32) (b : Nat) : Int32 :=
  match k with
  | 0 => p b ||| q b
  | 1 => ph_go (p b) 0 q 24
  | 2 => ph_go (p b) 1 q 23
  | _ => p b &&& ph_upTo (ph_far q (b + 1))
/-- the token of a kind -/
def ph_q (k : Nat) : Nat :=
  match k with
  | 0 => 12
  | 1 => 13
  | 2 => 14
  | _ => 18
/-- that row, for sets of places 0 and 1 -/
def ph_R (k m1 m2 b : Nat) : Nat :=
  match b with
  | 0 => (match k with
    | 0 => (m1 ||| m2) % 2
    | 2 => if m1 % 2 = 0 then 0 else m2 / 2 * 2
    | _ => (m1 &&& m2) % 2)
  | 1 => (match k with
    | 0 => (m1 ||| m2) / 2 * 2
    | 2 => 0
    | _ => (m1 &&& m2) / 2 * 2)
  | _ => 0
theorem ph_b8 : ∀ w, w < 24 → (nI w).toInt8.toInt32 = nI w := by decide +kernel
theorem ph_bit0 (n : Nat) : ph_bit 0 n = 0 := by
  unfold ph_bit
  rw [Int32.zero_shiftRight, Int32.zero_and]
theorem ph_go0 (d : Nat) (q : Nat → Int32) : ∀ n, ph_go 0 d q n = 0
  | 0 => rfl
  | n + 1 => by
    show (if ph_bit 0 n = 0 then ph_go 0 d q n else ph_go 0 d q n ||| q (n + d)) = 0
    rw [if_pos (ph_bit0 n)]
    exact ph_go0 d q n
theorem ph_whi : ∀ m, m < 4 → ∀ b, b < 24 → 2 ≤ b → ph_w (nI m) b = 0 := by decide +kernel
theorem ph_rlo : ∀ k, k < 4 → ∀ m1, m1 < 4 → ∀ m2, m2 < 4 → ∀ b, b < 2 → ph_row k (ph_w (nI m1)) (ph_w (nI m2)) b = nI (ph_R k m1 m2 b) := by decide +kernel
theorem ph_rhi {k m1 m2 b : Nat} (h1 : m1 < 4) (h2 : m2 < 4) (hb : b < 24) (h : 2 ≤ b) : ph_row k (ph_w (nI m1)) (ph_w (nI m2)) b = 0 := by
  have e1 := ph_whi m1 h1 b hb h
  have e2 := ph_whi m2 h2 b hb h
  unfold ph_row
  split
  · rw [e1, e2]; decide
  · rw [e1]; exact ph_go0 _ _ _
  · rw [e1]; exact ph_go0 _ _ _
  · rw [e1, Int32.zero_and]
theorem ph_Rhi {k m1 m2 b : Nat} (h : 2 ≤ b) : ph_R k m1 m2 b = 0 := by
  unfold ph_R
  split
  · omega
  · omega
  · rfl
theorem ph_rR {k m1 m2 b : Nat} (hk : k < 4) (h1 : m1 < 4) (h2 : m2 < 4) (hb : b < 24) : ph_row k (ph_w (nI m1)) (ph_w (nI m2)) b = nI (ph_R k m1 m2 b) := by
  by_cases h : b < 2
  · exact ph_rlo k hk m1 h1 m2 h2 b h
  · rw [ph_rhi h1 h2 hb (by omega), ph_Rhi (by omega)]
    rfl
theorem ph_sumC {r r' : Nat → Int32} : ∀ n, (∀ b, b < n → r b = r' b) → ph_sum r n = ph_sum r' n
  | 0, _ => rfl
  | n + 1, h => by
    show ph_sum r n + ph_ones (r n) 24 = ph_sum r' n + ph_ones (r' n) 24
    rw [ph_sumC n (fun b hb => h b (by omega)), h n (by omega)]
theorem ph_fstC {r r' : Nat → Int32} : ∀ n i, (∀ b, b < i + n → r b = r' b) → ph_fst r n i = ph_fst r' n i
  | 0, _, _ => rfl
  | n + 1, i, h => by
    show (if r i = 0 then ph_fst r n (i + 1) else nI i) = (if r' i = 0 then ph_fst r' n (i + 1) else nI i)
    rw [ph_fstC n (i + 1) (fun b hb => h b (by omega)), h i (by omega)]
/-- how many spans, and the first beginning, by table -/
def ph_N (k m1 m2 : Nat) : Int32 := ph_sum (fun b => nI (ph_R k m1 m2 b)) 24
def ph_F (k m1 m2 : Nat) : Int32 := ph_fst (fun b => nI (ph_R k m1 m2 b)) 24 0
def ph_one (r : Nat) : Nat := if r = 0 then 0 else 1
def ph_n (k m1 m2 : Nat) : Nat := ph_one (ph_R k m1 m2 0) + ph_one (ph_R k m1 m2 1)
def ph_f (k m1 m2 : Nat) : Int32 := if ph_R k m1 m2 0 = 0 then (if ph_R k m1 m2 1 = 0 then -1 else 1) else 0
theorem ph_Nn : ∀ k, k < 4 → ∀ m1, m1 < 4 → ∀ m2, m2 < 4 → ph_N k m1 m2 = nI (ph_n k m1 m2) := by decide +kernel
theorem ph_Ff : ∀ k, k < 4 → ∀ m1, m1 < 4 → ∀ m2, m2 < 4 → ph_F k m1 m2 = ph_f k m1 m2 := by decide +kernel
/-- whether the condition holds -/
def ph_h (k m1 m2 : Nat) : Int32 := if ph_f k m1 m2 < 0 then 0 else 1
theorem ph_h0 : ∀ k, k < 4 → ph_h k 0 0 = 0 := by decide +kernel
/-- the places of word x in a document of the words a, b -/
def ph_m (a b x : Nat) : Nat := (if a = x then 1 else 0) + (if b = x then 2 else 0)
theorem ph_mlt (a b x : Nat) : ph_m a b x < 4 := by
  unfold ph_m
  split <;> split <;> omega
/-- the posts after the two writes -/
def ph_A3 (a b : Nat) : Nat → Int32 := upd (upd (fun _ => 0) (24 + a) (0 ||| ((1 : Int32) <<< (nI 0 &&& 31)))) (24 + b) (upd (fun _ => 0) (24 + a) (0 ||| ((1 : Int32) <<< (nI 0 &&& 31))) (24 + b) ||| ((1 : Int32) <<< (nI 1 &&& 31)))
theorem ph_A2 : ∀ a, a < 4 → ∀ b, b < 4 → ∀ x, x < 4 → ph_A3 a b (24 + x) = nI (ph_m a b x) := by decide +kernel
theorem ph_A0 {a b x d : Nat} (ha : a < 4) (hb : b < 4) (hx : x < 4) (hd : d ≠ 2) : ph_A3 a b (d * 12 + x) = nI 0 := by
  unfold ph_A3
  rw [pk_un (by omega), pk_un (by omega)]
  rfl
end
section
/-! small methods, write, read, ask -/
theorem ph_doc {post : Int32 → Prop} {x : Int32} {d : Nat} (hd : d < 6) (h : post 1) (hx : x = nI d := by rfl) : wpX_isDocument post () x :=
  pk_lt d 0 (fun z => absurd z (by omega)) (fun _ => pk_le 6 d (fun z => absurd z (by omega)) (fun _ => h) rfl hx) hx
theorem ph_isw {post : Int32 → Prop} {w : Nat} (hw : w < 12) (h : post 1) : wpX_isWord post () (nI w) :=
  pk_lt w 0 (fun z => absurd z (by omega)) (fun _ => pk_le 12 w (fun z => absurd z (by omega)) (fun _ => h))
theorem ph_span {post : Int32 → Prop} {x : Int32} {w : Nat} (hx : x = nI w) (hw : w ≤ 18) (h : post 1) : wpX_isSpan post () x :=
  pk_lt w 0 (fun z => absurd z (by omega)) (fun _ => pk_lt 18 w (fun z => absurd z (by omega)) (fun _ => h) rfl hx) hx
theorem ph_wants0 {post : Int32 → Prop} {x : Int32} {w : Nat} (hx : x = nI w) (hw : w < 12) (h : post 0) : wpX_wants post () x :=
  pk_le 12 w (fun z => absurd z (by omega)) (fun _ => h) rfl hx
theorem ph_wants1 {post : Int32 → Prop} {x : Int32} (hx : x = nI 23) (h : post 1) : wpX_wants post () x :=
  pk_le 12 23 (fun _ => pk_eq 23 22 (fun z => absurd z (by omega)) (fun _ => pk_eq 23 23 (fun _ => h) (fun z => absurd rfl z) hx) hx) (fun z => absurd z (by omega)) rfl hx
theorem ph_wants2 {post : Int32 → Prop} {x : Int32} {q : Nat} (hx : x = nI q) (h12 : 12 ≤ q) (hq : q ≤ 18) (h : post 2) : wpX_wants post () x :=
  pk_le 12 q (fun _ => pk_eq q 22 (fun z => absurd z (by omega)) (fun _ => pk_eq q 23 (fun z => absurd z (by omega)) (fun _ => h) hx) hx) (fun z => absurd z (by omega)) rfl hx
section
variable {f0 f1 : Int32} {a1 a2 a3 a4 a5 a6 a7 a8 a9 : Nat → Int32}
theorem ph_write {post : Int32 → St2 → Prop} {p w : Nat} (hp : p < 2) (hw : w < 4) (h1 : a1 2 = nI p)
    (H : ∀ a1' a2', a1' 2 = nI (p + 1) → post (nI p) (f0, f1, a1', a2', upd a3 (24 + w) (a3 (24 + w) ||| ((1 : Int32) <<< (nI p &&& 31))), a4, a5, a6, a7, a8, a9)) :
    wpX_write post (f0, f1, a1, a2, a3, a4, a5, a6, a7, a8, a9) 2 (nI w) := by
  have e1 : (2 : Int32) * 24 + nI p = nI (48 + p) := by
    show nI 2 * nI 24 + nI p = _
    rw [pk_mul, nI_add]
  have e2 : (2 : Int32) * 12 + nI w = nI (24 + w) := by
    show nI 2 * nI 12 + nI w = _
    rw [pk_mul, nI_add]
  have e3 : (((2 : Int32) * 12) + nI w).toNatClampNeg = 24 + w := by rw [e2, nI_clamp (by omega)]
  unfold wpX_write
  refine ph_doc (d := 2) (by omega) ?_
  refine br_f (by decide) ?_
  refine ph_isw (by omega) ?_
  refine br_f (by decide) ⟨pk_in 2 6 (by omega), ?_⟩
  refine br_t (show a1 2 < 24 by rw [h1]; exact nI_lt (b := 24) (by omega) (by omega)) ⟨pk_in 2 6 (by omega), nm_r h1 ⟨pk_in (48 + p) 144 (by omega) e1, nm_e ⟨pk_in (24 + w) 72 (by omega) e2, pk_in (24 + w) 72 (by omega) e2, nm_r (by rw [e3]) ⟨pk_in 2 6 (by omega), pk_in 2 6 (by omega), nm_e (H _ _ ?_)⟩⟩⟩⟩
  show upd a1 2 ((a1 2 + 1).toInt8.toInt32) 2 = nI (p + 1)
  rw [pk_us, h1, nI_1, ph_b8 (p + 1) (by omega)]
section
variable {post : St2 → Prop}
theorem ph_at0 (h : a7 0 = 1) (H : post (f0, nI 0, a1, a2, a3, a4, a5, a6, upd a7 0 0, a8, a9)) : wX_attach_32 post (nI 0) f0 (nI 1) a1 a2 a3 a4 a5 a6 a7 a8 a9 :=
  ⟨pk_in 0 14 (by omega), pk_in 0 14 (by omega), nm_r (show upd a7 0 ((a7 0 - 1).toInt8.toInt32) = upd a7 0 0 by rw [h]; rfl) ⟨pk_in 0 14 (by omega), br_t (show upd a7 0 0 0 = 0 from pk_us) (nm_r (show nI 1 - 1 = nI 0 by decide) H)⟩⟩
theorem ph_at1 (h : a7 0 = 2) (H : post (f0, nI 1, a1, a2, a3, a4, a5, a6, upd a7 0 1, a8, a9)) : wX_attach_32 post (nI 0) f0 (nI 1) a1 a2 a3 a4 a5 a6 a7 a8 a9 :=
  ⟨pk_in 0 14 (by omega), pk_in 0 14 (by omega), nm_r (show upd a7 0 ((a7 0 - 1).toInt8.toInt32) = upd a7 0 1 by rw [h]; rfl) ⟨pk_in 0 14 (by omega), br_f (show ¬ upd a7 0 1 0 = 0 by rw [pk_us]; decide) H⟩⟩
/-- attach without a second part -/
theorem ph_atA {p : Int32} (h : p = a6 0 + 1) (H : wX_attach_32 post (nI 0) f0 (nI 1) a1 a2 a3 a4 a5 a6 a7 a8 a9) : wpX_attach post (f0, nI 1, a1, a2, a3, a4, a5, a6, a7, a8, a9) p :=
  nm_r (show nI 1 - 1 = nI 0 by decide) ⟨pk_in 0 14 (by omega), br_t h H⟩
/-- attach of the second part -/
theorem ph_atB (h : a6 0 = nI 1) (H : wX_attach_32 post (nI 0) f0 (nI 1) a1 a2 a3 a4 (upd a5 1 (nI 3)) a6 a7 a8 a9) : wpX_attach post (f0, nI 1, a1, a2, a3, a4, a5, a6, a7, a8, a9) (nI 3) :=
  nm_r (show nI 1 - 1 = nI 0 by decide) ⟨pk_in 0 14 (by omega), br_f (show ¬ nI 3 = a6 0 + 1 by rw [h]; decide) ⟨pk_in 0 14 (by omega), pk_in 1 12 (by omega) h, nm_r (show upd a5 (a6 0).toNatClampNeg (nI 3).toInt8.toInt32 = upd a5 1 (nI 3) by rw [h]; rfl) H⟩⟩
theorem ph_rdX {n s : Nat} {c : Int32} (hs : s ≤ 4) (H : post (nI s, c, a1, a2, a3, a4, a5, a6, a7, a8, a9)) : wX_read_7 post (n + 1) (nI s) (nI s) c a1 a2 a3 a4 a5 a6 a7 a8 a9 :=
  pk_le s s (fun _ => H) (fun z => absurd z (by omega))
theorem ph_rd0 {n s : Nat} (h0 : 0 < s) (hs : s ≤ 4) (h4 : a4 0 = nI 23) (H : wX_read_7 post n (nI 1) (nI s) (nI 1) a1 a2 a3 a4 a5 (upd a6 0 0) (upd a7 0 1) a8 a9) : wX_read_7 post (n + 1) (nI 0) (nI s) (nI 0) a1 a2 a3 a4 a5 a6 a7 a8 a9 :=
  pk_le s 0 (fun z => absurd z (by omega)) (fun _ => pk_le 0 0 (fun _ => ⟨pk_in 0 12 (by omega), ph_wants1 h4 (br_f (by decide) ⟨pk_in 0 14 (by omega), nm_r (show upd a6 0 (nI 0).toInt8.toInt32 = upd a6 0 0 by rfl) ⟨pk_in 0 14 (by omega), nm_r (show upd a7 0 (1 : Int32).toInt8.toInt32 = upd a7 0 1 by rfl) (nm_r (nI_1 0) (nm_r (nI_1 0) H))⟩⟩)⟩) (fun z => absurd z (by omega)))
theorem ph_rd1 {n s q : Nat} (h0 : 1 < s) (hs : s ≤ 4) (h4 : a4 1 = nI q) (h12 : 12 ≤ q) (hq : q ≤ 18) (h6 : a6 0 = 0) (h7 : a7 0 = 1) (H : wX_read_7 post n (nI 2) (nI s) (nI 1) a1 a2 a3 a4 a5 (upd a6 0 (nI 1)) (upd (upd a7 0 0) 0 2) a8 a9) : wX_read_7 post (n + 1) (nI 1) (nI s) (nI 1) a1 a2 a3 a4 a5 a6 a7 a8 a9 :=
  pk_le s 1 (fun z => absurd z (by omega)) (fun _ => pk_le 1 0 (fun z => absurd z (by omega)) (fun _ => ph_atA (show nI 1 = a6 0 + 1 by rw [h6]; rfl) (ph_at0 h7 ⟨pk_in 1 12 (by omega), ph_wants2 h4 h12 hq (br_f (by decide) ⟨pk_in 0 14 (by omega), nm_r (show upd a6 0 (nI 1).toInt8.toInt32 = upd a6 0 (nI 1) by rfl) ⟨pk_in 0 14 (by omega), nm_r (show upd (upd a7 0 0) 0 (2 : Int32).toInt8.toInt32 = upd (upd a7 0 0) 0 2 by rfl) (nm_r (nI_1 0) (nm_r (nI_1 1) H))⟩⟩)⟩)))
theorem ph_rd2 {n s w : Nat} (h0 : 2 < s) (hs : s ≤ 4) (h4 : a4 2 = nI w) (hw : w < 12) (h6 : a6 0 = nI 1) (h7 : a7 0 = 2) (H : wX_read_7 post n (nI 3) (nI s) (nI 1) a1 a2 a3 a4 a5 a6 (upd a7 0 1) a8 a9) : wX_read_7 post (n + 1) (nI 2) (nI s) (nI 1) a1 a2 a3 a4 a5 a6 a7 a8 a9 :=
  pk_le s 2 (fun z => absurd z (by omega)) (fun _ => pk_le 1 0 (fun z => absurd z (by omega)) (fun _ => ph_atA (show nI 2 = a6 0 + 1 by rw [h6]; rfl) (ph_at1 h7 ⟨pk_in 2 12 (by omega), ph_wants0 h4 hw (br_t (by decide) (nm_r (nI_1 2) H))⟩)))
theorem ph_rd3 {n s w : Nat} (h0 : 3 < s) (hs : s ≤ 4) (h4 : a4 3 = nI w) (hw : w < 12) (h6 : a6 0 = nI 1) (h7 : a7 0 = 1) (H : wX_read_7 post n (nI 4) (nI s) (nI 0) a1 a2 a3 a4 (upd a5 1 (nI 3)) a6 (upd a7 0 0) a8 a9) : wX_read_7 post (n + 1) (nI 3) (nI s) (nI 1) a1 a2 a3 a4 a5 a6 a7 a8 a9 :=
  pk_le s 3 (fun z => absurd z (by omega)) (fun _ => pk_le 1 0 (fun z => absurd z (by omega)) (fun _ => ph_atB h6 (ph_at0 h7 ⟨pk_in 3 12 (by omega), ph_wants0 h4 hw (br_t (by decide) (nm_r (nI_1 3) H))⟩)))
theorem ph_read0 (H : post (nI 0, nI 0, a1, a2, a3, a4, a5, a6, a7, a8, a9)) : wpX_read post (nI 0, f1, a1, a2, a3, a4, a5, a6, a7, a8, a9) :=
  ⟨1, ph_rdX (n := 0) (s := 0) (by omega) H⟩
theorem ph_read1 (h0 : a4 0 = nI 23) (H : ∀ a6' a7', a6' 0 = nI 0 → post (nI 1, nI 1, a1, a2, a3, a4, a5, a6', a7', a8, a9)) : wpX_read post (nI 1, f1, a1, a2, a3, a4, a5, a6, a7, a8, a9) :=
  ⟨2, ph_rd0 (n := 1) (s := 1) (by omega) (by omega) h0 (ph_rdX (by omega) (H _ _ pk_us))⟩
theorem ph_read2 {q : Nat} (h0 : a4 0 = nI 23) (h1 : a4 1 = nI q) (h12 : 12 ≤ q) (hq : q ≤ 18) (H : ∀ a6' a7', a6' 0 = nI 1 → post (nI 2, nI 1, a1, a2, a3, a4, a5, a6', a7', a8, a9)) : wpX_read post (nI 2, f1, a1, a2, a3, a4, a5, a6, a7, a8, a9) :=
  ⟨3, ph_rd0 (n := 2) (s := 2) (by omega) (by omega) h0 (ph_rd1 (by omega) (by omega) h1 h12 hq pk_us pk_us (ph_rdX (by omega) (H _ _ pk_us)))⟩
theorem ph_read3 {q x : Nat} (h0 : a4 0 = nI 23) (h1 : a4 1 = nI q) (h12 : 12 ≤ q) (hq : q ≤ 18) (h2 : a4 2 = nI x) (hx : x < 12) (H : ∀ a6' a7', a6' 0 = nI 1 → post (nI 3, nI 1, a1, a2, a3, a4, a5, a6', a7', a8, a9)) : wpX_read post (nI 3, f1, a1, a2, a3, a4, a5, a6, a7, a8, a9) :=
  ⟨4, ph_rd0 (n := 3) (s := 3) (by omega) (by omega) h0 (ph_rd1 (by omega) (by omega) h1 h12 hq pk_us pk_us (ph_rd2 (by omega) (by omega) h2 hx pk_us pk_us (ph_rdX (by omega) (H _ _ pk_us))))⟩
theorem ph_read4 {q x y : Nat} (h0 : a4 0 = nI 23) (h1 : a4 1 = nI q) (h12 : 12 ≤ q) (hq : q ≤ 18) (h2 : a4 2 = nI x) (hx : x < 12) (h3 : a4 3 = nI y) (hy : y < 12) (H : ∀ a5' a6' a7', a5' 1 = nI 3 → post (nI 4, nI 0, a1, a2, a3, a4, a5', a6', a7', a8, a9)) : wpX_read post (nI 4, f1, a1, a2, a3, a4, a5, a6, a7, a8, a9) :=
  ⟨5, ph_rd0 (n := 4) (s := 4) (by omega) (by omega) h0 (ph_rd1 (by omega) (by omega) h1 h12 hq pk_us pk_us (ph_rd2 (by omega) (by omega) h2 hx pk_us pk_us (ph_rd3 (by omega) (by omega) h3 hy pk_us pk_us (ph_rdX (by omega) (H _ _ _ pk_us)))))⟩
end
section
variable {post : Int32 → St2 → Prop}
theorem ph_a93 {s w : Nat} (hs : s < 4) (hw : w < 24) (H : post (nI (s + 1)) (nI (s + 1), f1, a1, a2, a3, upd a4 s (nI w), a5, a6, a7, a8, a9)) : wX_ask_93 post (nI w) 1 (nI s) f1 a1 a2 a3 a4 a5 a6 a7 a8 a9 :=
  br_f (by decide) ⟨pk_in s 12 (by omega), nm_r (show upd a4 (nI s).toNatClampNeg (nI w).toInt8.toInt32 = upd a4 s (nI w) by rw [nI_clamp (by omega), ph_b8 w hw]) (nm_r (nI_1 s) H)⟩
theorem ph_a72 {s w : Nat} (hs : s < 4) (hw : w ≤ 18) (H : post (nI (s + 1)) (nI (s + 1), f1, a1, a2, a3, upd a4 s (nI w), a5, a6, a7, a8, a9)) : wX_ask_72 post (nI w) (nI s) f1 a1 a2 a3 a4 a5 a6 a7 a8 a9 := by
  unfold wX_ask_72
  exact br_f (by decide) (ph_span rfl hw (ph_a93 hs (by omega) H))
theorem ph_a58 {s w q : Nat} {z : Int32} (hz : z = nI q) (hq : q = 23 ∨ q ≤ 18) (hs : s < 4) (hw : w ≤ 18) (H : post (nI (s + 1)) (nI (s + 1), f1, a1, a2, a3, upd a4 s (nI w), a5, a6, a7, a8, a9)) : wX_ask_58 post (nI w) z (nI s) f1 a1 a2 a3 a4 a5 a6 a7 a8 a9 :=
  pk_eq q 23 (fun _ => ph_a72 hs hw H) (fun z => ph_span hz (by omega) (br_f (by decide) (ph_a72 hs hw H))) hz
theorem ph_a30 {s w q j : Nat} (hj : j < 12) (h6 : a6 0 = nI j) (h4 : a4 j = nI q) (hq : q = 23 ∨ q ≤ 18) (hs : s < 4) (hw : w ≤ 18) (H : post (nI (s + 1)) (nI (s + 1), nI 1, a1, a2, a3, upd a4 s (nI w), a5, a6, a7, a8, a9)) : wX_ask_30 post (nI w) (nI s) (nI 1) a1 a2 a3 a4 a5 a6 a7 a8 a9 :=
  pk_le 1 0 (fun z => absurd z (by omega)) (fun _ => ⟨pk_in 0 14 (by omega), pk_in j 12 hj h6, ph_a58 (show a4 (a6 0).toNatClampNeg = nI q by rw [h6, nI_clamp (by omega), h4]) hq hs hw H⟩)
theorem ph_ask0 (H : post (nI 1) (nI 1, nI 0, a1, a2, a3, upd a4 0 (nI 23), a5, a6, a7, a8, a9)) : wpX_ask post (nI 0, f1, a1, a2, a3, a4, a5, a6, a7, a8, a9) 23 := by
  unfold wpX_ask
  refine ph_read0 (pk_le 12 0 (fun z => absurd z (by omega)) (fun _ => pk_le 0 0 (fun _ => pk_le 0 0 (fun _ => ?_) (fun z => absurd z (by omega))) (fun z => absurd z (by omega))))
  exact br_f (by decide) (br_f (by decide) (br_t (by decide) (br_t (by decide) (br_t rfl (br_f (by decide) (br_f (by decide) (ph_a93 (s := 0) (w := 23) (by omega) (by omega) H)))))))
theorem ph_askT {s w q j : Nat} (hj : j < 12) (h6 : a6 0 = nI j) (h4 : a4 j = nI q) (hq : q = 23 ∨ q ≤ 18) (h0 : 0 < s) (hs : s < 4) (hw : w ≤ 18) (H : post (nI (s + 1)) (nI (s + 1), nI 1, a1, a2, a3, upd a4 s (nI w), a5, a6, a7, a8, a9)) :
    ((12 ≤ nI s → (post (-2) (nI s, nI 1, a1, a2, a3, a4, a5, a6, a7, a8, a9))) ∧ (¬ 12 ≤ nI s → (((nI s ≤ 0 → (wX_ask_30 post (nI w) (nI s) (nI 1) a1 a2 a3 a4 a5 a6 a7 a8 a9)) ∧ (¬ nI s ≤ 0 → (((nI 1 = 0 → (post (-2) (nI s, nI 1, a1, a2, a3, a4, a5, a6, a7, a8, a9))) ∧ (¬ nI 1 = 0 → (wX_ask_30 post (nI w) (nI s) (nI 1) a1 a2 a3 a4 a5 a6 a7 a8 a9))))))))) :=
  pk_le 12 s (fun z => absurd z (by omega)) (fun _ => pk_le s 0 (fun z => absurd z (by omega)) (fun _ => br_f (by decide) (ph_a30 hj h6 h4 hq hs hw H)))
theorem ph_ask1 {w : Nat} (h0 : a4 0 = nI 23) (hw : w ≤ 18) (H : ∀ a6' a7', post (nI 2) (nI 2, nI 1, a1, a2, a3, upd a4 1 (nI w), a5, a6', a7', a8, a9)) : wpX_ask post (nI 1, f1, a1, a2, a3, a4, a5, a6, a7, a8, a9) (nI w) := by
  unfold wpX_ask
  exact ph_read1 h0 (fun a6' a7' e => ph_askT (s := 1) (by omega) e h0 (by omega) (by omega) (by omega) hw (H a6' a7'))
theorem ph_ask2 {w q : Nat} (h0 : a4 0 = nI 23) (h1 : a4 1 = nI q) (h12 : 12 ≤ q) (hq : q ≤ 18) (hw : w ≤ 18) (H : ∀ a6' a7', post (nI 3) (nI 3, nI 1, a1, a2, a3, upd a4 2 (nI w), a5, a6', a7', a8, a9)) : wpX_ask post (nI 2, f1, a1, a2, a3, a4, a5, a6, a7, a8, a9) (nI w) := by
  unfold wpX_ask
  exact ph_read2 h0 h1 h12 hq (fun a6' a7' e => ph_askT (s := 2) (by omega) e h1 (by omega) (by omega) (by omega) hw (H a6' a7'))
theorem ph_ask3 {w q x : Nat} (h0 : a4 0 = nI 23) (h1 : a4 1 = nI q) (h12 : 12 ≤ q) (hq : q ≤ 18) (h2 : a4 2 = nI x) (hx : x < 12) (hw : w ≤ 18) (H : ∀ a6' a7', post (nI 4) (nI 4, nI 1, a1, a2, a3, upd a4 3 (nI w), a5, a6', a7', a8, a9)) : wpX_ask post (nI 3, f1, a1, a2, a3, a4, a5, a6, a7, a8, a9) (nI w) := by
  unfold wpX_ask
  exact ph_read3 h0 h1 h12 hq h2 hx (fun a6' a7' e => ph_askT (s := 3) (by omega) e h1 (by omega) (by omega) (by omega) hw (H a6' a7'))
end
end
end
section
/-! working a query out: word, combine, condition, work -/
theorem ph_grL {post : Int32 → Prop} {s : Int32} : ∀ n, n ≤ 24 → post (ph_great s n) → wX_greatest_3 post s (n + 1) (nI n + (-1))
  | 0, _, H => br_t (show nI 0 + (-1) < 0 by decide) H
  | n + 1, hn, H => by
    rw [pk_m1]
    refine pk_lt n 0 (fun z => absurd z (by omega)) (fun _ => br_c (fun c => nm_e (ph_grL n (by omega) ?_)) (fun c => ?_))
    · have e : ph_great s (n + 1) = ph_great s n := if_pos c
      rwa [e] at H
    · have e : ph_great s (n + 1) = nI n := if_neg c
      rwa [e] at H
theorem ph_grG {post : Int32 → Prop} {s : Int32} (H : post (ph_great s 24)) : wpX_greatest post () s :=
  ⟨25, ph_grL 24 (by omega) H⟩
section
variable {f0 f1 : Int32} {a1 a2 a3 a4 a5 a6 a7 a8 a9 : Nat → Int32}
theorem ph_goG {post : Int32 → Prop} {p : Int32} {q : Nat → Int32} {d : Nat} (hd : d < 2) (hq : ∀ b, b < 24 → a8 (72 + b) = q b) (H : post (ph_go p d q (24 - d))) : wpX_goOn post (f0, f1, a1, a2, a3, a4, a5, a6, a7, a8, a9) p (nI d) (nI 72) :=
  pk_loop (fun n i s => wX_goOn_6 post p (nI d) (nI 72) f0 f1 a1 a2 a3 a4 a5 a6 a7 a8 a9 n s (nI i)) (fun i s => s = ph_go p d q i) (24 - d) 0 0 (by omega) rfl
    (fun n s h => pk_le 24 (24 - d + d) (fun _ => by rw [h]; exact H) (fun z => absurd z (by omega)) rfl (nI_add _ _))
    (fun n i s hi h hw => pk_le 24 (i + d) (fun z => absurd z (by omega)) (fun _ => br_c
      (fun c => nm_r (nI_1 i) (hw s (by rw [h]; exact (if_pos c).symm)))
      (fun c => by
        have e : nI 72 + nI i + nI d = nI (72 + (i + d)) := by rw [nI_add, nI_add, Nat.add_assoc]
        refine ⟨pk_in (72 + (i + d)) 288 (by omega) e, nm_e (nm_r (nI_1 i) (hw _ ?_))⟩
        rw [e, nI_clamp (by omega), hq (i + d) (by omega), h]
        exact (if_neg c).symm)) rfl (nI_add _ _))
theorem ph_wordG {post : St2 → Prop} {k : Nat} {m : Int32} (hk : k < 12) (H : ∀ a8', (∀ b, b < 24 → a8' (k * 24 + b) = ph_w m b) → (∀ j, j < k * 24 ∨ k * 24 + 24 ≤ j → a8' j = a8 j) → post (f0, f1, a1, a2, a3, a4, a5, a6, a7, a8', a9)) : wpX_word post (f0, f1, a1, a2, a3, a4, a5, a6, a7, a8, a9) (nI k) m :=
  pk_loop (fun n i s => wX_word_2 post (nI k) m f0 f1 n (nI i) a1 a2 a3 a4 a5 a6 a7 s a9) (fun i s => (∀ b, b < i → s (k * 24 + b) = ph_w m b) ∧ (∀ j, j < k * 24 ∨ k * 24 + 24 ≤ j → s j = a8 j)) 24 0 a8 (by omega) ⟨fun b hb => absurd hb (by omega), fun _ _ => rfl⟩
    (fun n s h => pk_le 24 24 (fun _ => H s h.1 h.2) (fun z => absurd z (by omega)))
    (fun n i s hi h hw => pk_le 24 i (fun z => absurd z (by omega)) (fun _ => by
      have e : nI k * 24 + nI i = nI (k * 24 + i) := by
        show nI k * nI 24 + nI i = _
        rw [pk_mul, nI_add]
      refine ⟨pk_in (k * 24 + i) 288 (by omega) e, nm_r (by rw [e, nI_clamp (by omega)]) (nm_r (nI_1 i) (hw _ ⟨fun b hb => ?_, fun j hj => ?_⟩))⟩
      · by_cases eb : b = i
        · rw [eb, pk_us]
          rfl
        · rw [pk_un (by omega)]
          exact h.1 b (by omega)
      · rw [pk_un (by omega)]
        exact h.2 j hj))
/-- the loop's picture: places of row 1 done, rows 2 and 3 as they were -/
def ph_I (p q : Nat → Int32) (k i : Nat) (x5 : Int32) (s : Nat → Int32) : Prop := (∀ b, b < i → s (24 + b) = ph_row k p q b) ∧ (∀ b, b < 24 → s (48 + b) = p b) ∧ (∀ b, b < 24 → s (72 + b) = q b) ∧ (k = 3 → x5 = ph_far q i)
theorem ph_Is {p q : Nat → Int32} {k i : Nat} {x5 y5 v : Int32} {s : Nat → Int32} (hi : i < 24) (h : ph_I p q k i x5 s) (hv : v = ph_row k p q i) (h5 : k = 3 → y5 = ph_far q (i + 1)) : ph_I p q k (i + 1) y5 (upd s (24 + i) v) := by
  refine ⟨fun b hb => ?_, fun b hb => ?_, fun b hb => ?_, h5⟩
  · by_cases eb : b = i
    · rw [eb, pk_us, hv]
    · rw [pk_un (by omega)]
      exact h.1 b (by omega)
  · rw [pk_un (by omega)]
    exact h.2.1 b hb
  · rw [pk_un (by omega)]
    exact h.2.2.1 b hb
/-- the store that ends a turn of combine -/
theorem ph_c130 {post : St2 → Prop} {J : Int32 → Int32 → (Nat → Int32) → (Nat → Int32) → (Nat → Int32) → (Nat → Int32) → (Nat → Int32) → (Nat → Int32) → (Nat → Int32) → (Nat → Int32) → (Nat → Int32) → Prop} {x2 x3 x4 x5 v : Int32} {i : Nat} (hi : i < 24) (H : J x5 (nI (i + 1)) a1 a2 a3 a4 a5 a6 a7 (upd a8 (24 + i) v) a9) : wX_combine_130 post J (nI 1) x2 x3 x4 x5 (nI i) v f0 f1 a1 a2 a3 a4 a5 a6 a7 a8 a9 := by
  have e : nI 1 * 24 + nI i = nI (24 + i) := by
    show nI 1 * nI 24 + nI i = _
    rw [pk_mul, nI_add]
  exact ⟨pk_in (24 + i) 288 (by omega) e, nm_r (by rw [e, nI_clamp (by omega)]) (nm_r (nI_1 i) H)⟩
theorem ph_c101 {post : St2 → Prop} {J : Int32 → Int32 → (Nat → Int32) → (Nat → Int32) → (Nat → Int32) → (Nat → Int32) → (Nat → Int32) → (Nat → Int32) → (Nat → Int32) → (Nat → Int32) → (Nat → Int32) → Prop} {x2 x3 x4 x7 z : Int32} {i : Nat} (hi : i < 24) (H : J z (nI (i + 1)) a1 a2 a3 a4 a5 a6 a7 (upd a8 (24 + i) (x7 &&& ph_upTo z)) a9) : wX_combine_101 post J (nI 1) x2 x3 x4 (nI i) x7 z f0 f1 a1 a2 a3 a4 a5 a6 a7 a8 a9 :=
  nm_e (ph_c130 hi H)
theorem ph_comb {post : St2 → Prop} {k : Nat} {t : Int32} {p q : Nat → Int32} (hk : k < 4) (ht : t = nI (ph_q k)) (h5 : a5 1 = nI 3) (hp : ∀ b, b < 24 → a8 (48 + b) = p b) (hq : ∀ b, b < 24 → a8 (72 + b) = q b)
    (H : ∀ a8', (∀ b, b < 24 → a8' (24 + b) = ph_row k p q b) → post (f0, f1, a1, a2, a3, a4, a5, a6, a7, a8', a9)) : wpX_combine post (f0, f1, a1, a2, a3, a4, a5, a6, a7, a8, a9) (nI 1) t := by
  refine nm_r (show (nI 1 + 1) * 24 = nI 48 by decide) ⟨pk_in 1 12 (by omega), nm_r (show a5 1 * 24 = nI 72 by rw [h5]; decide) ?_⟩
  refine pk_loop (fun n i (s : Int32 × (Nat → Int32)) => wX_combine_24 post (nI 1) t (nI 48) (nI 72) f0 f1 n s.1 (nI i) a1 a2 a3 a4 a5 a6 a7 s.2 a9) (fun i s => ph_I p q k i s.1 s.2) 24 0 (-1, a8) (by omega) ⟨fun b hb => absurd hb (by omega), hp, hq, fun _ => rfl⟩
    (fun n s h => pk_le 24 24 (fun _ => H s.2 h.1) (fun z => absurd z (by omega))) ?_
  intro n i s hi h hw
  have e3 : nI 48 + nI i = nI (48 + i) := nI_add _ _
  have e4 : nI 72 + nI i = nI (72 + i) := nI_add _ _
  have r3 : s.2 (nI 48 + nI i).toNatClampNeg = p i := by rw [e3, nI_clamp (by omega)]; exact h.2.1 i hi
  have r4 : s.2 (nI 72 + nI i).toNatClampNeg = q i := by rw [e4, nI_clamp (by omega)]; exact h.2.2.1 i hi
  refine pk_le 24 i (fun z => absurd z (by omega)) (fun _ => ⟨pk_in (48 + i) 288 (by omega) e3, nm_r r3 ?_⟩)
  have hc : k = 0 ∨ k = 1 ∨ k = 2 ∨ k = 3 := by omega
  rcases hc with rfl | rfl | rfl | rfl
  · exact br_t ht ⟨pk_in (72 + i) 288 (by omega) e4, nm_r (show _ = ph_row 0 p q i by rw [r4]; rfl) (ph_c130 hi (hw (_, _) (ph_Is hi h rfl (fun z => absurd z (by omega)))))⟩
  · subst ht
    exact br_f (by decide) (br_f (by decide) (ph_goG (d := 0) (by omega) h.2.2.1 (ph_c130 hi (hw (_, _) (ph_Is hi h rfl (fun z => absurd z (by omega)))))))
  · subst ht
    exact br_f (by decide) (br_f (by decide) (ph_goG (d := 1) (by omega) h.2.2.1 (ph_c130 hi (hw (_, _) (ph_Is hi h rfl (fun z => absurd z (by omega)))))))
  · subst ht
    have e5 : s.1 = ph_far q i := h.2.2.2 rfl
    refine br_f (by decide) (br_t (by decide) ⟨pk_in (72 + i) 288 (by omega) e4, ph_grG ?_⟩)
    rw [r4]
    refine br_c (fun c => ph_c101 hi (hw (s.1, upd s.2 (24 + i) (p i &&& ph_upTo s.1)) ?_)) (fun c => ph_c101 hi (hw (ph_great (q i) 24, upd s.2 (24 + i) (p i &&& ph_upTo (ph_great (q i) 24))) ?_))
    · have e : ph_far q (i + 1) = s.1 := by
        rw [e5] at c ⊢
        exact if_pos c
      exact ph_Is hi h (show p i &&& ph_upTo s.1 = p i &&& ph_upTo (ph_far q (i + 1)) by rw [e]) (fun _ => e.symm)
    · have e : ph_far q (i + 1) = ph_great (q i) 24 := by
        rw [e5] at c
        exact if_neg c
      exact ph_Is hi h (show p i &&& ph_upTo (ph_great (q i) 24) = p i &&& ph_upTo (ph_far q (i + 1)) by rw [e]) (fun _ => e.symm)
theorem ph_fbL {post : Int32 → Prop} {r : Nat → Int32} (hr : ∀ b, b < 24 → a8 (24 + b) = r b) : ∀ n i, i + n = 24 → post (ph_fst r n i) → wX_firstBegin_10 post (nI 1) f0 f1 a1 a2 a3 a4 a5 a6 a7 a8 a9 (n + 1) (nI i)
  | 0, i, hi, H => pk_le 24 i (fun _ => H) (fun z => absurd z (by omega))
  | n + 1, i, hi, H => by
    have e : nI 1 * 24 + nI i = nI (24 + i) := by
      show nI 1 * nI 24 + nI i = _
      rw [pk_mul, nI_add]
    have e2 : a8 (nI 1 * 24 + nI i).toNatClampNeg = r i := by rw [e, nI_clamp (by omega)]; exact hr i (by omega)
    refine pk_le 24 i (fun z => absurd z (by omega)) (fun _ => ⟨pk_in (24 + i) 288 (by omega) e, br_c (fun c => nm_r (nI_1 i) (ph_fbL hr n (i + 1) (by omega) ?_)) (fun c => ?_)⟩)
    · rw [e2] at c
      have e3 : ph_fst r (n + 1) i = ph_fst r n (i + 1) := if_pos c
      rwa [e3] at H
    · rw [e2] at c
      have e3 : ph_fst r (n + 1) i = nI i := if_neg c
      rwa [e3] at H
theorem ph_fb {post : Int32 → Prop} {r : Nat → Int32} (hr : ∀ b, b < 24 → a8 (24 + b) = r b) (H : post (ph_fst r 24 0)) : wpX_firstBegin post (f0, f1, a1, a2, a3, a4, a5, a6, a7, a8, a9) (nI 1) 0 :=
  br_t (by decide) ⟨25, ph_fbL hr 24 0 (by omega) H⟩
theorem ph_cond {post : Int32 → Prop} {r : Nat → Int32} {v : Int32} (hr : ∀ b, b < 24 → a8 (24 + b) = r b) (hv : v = if ph_fst r 24 0 < 0 then 0 else 1) (H : post v) : wpX_condition post (f0, f1, a1, a2, a3, a4, a5, a6, a7, a8, a9) (nI 0) 23 := by
  refine ⟨pk_in 1 12 (by omega), nm_e (br_t rfl (ph_fb hr (br_c (fun c => ?_) (fun c => ?_))))⟩
  · rw [if_pos c] at hv
    rwa [hv] at H
  · rw [if_neg c] at hv
    rwa [hv] at H
end
end
section
/-! work, spanOf, spans, begins, holds, matching -/
theorem ph_q1 : ∀ k, k < 4 → 12 ≤ ph_q k ∧ ph_q k ≤ 18 := by decide
theorem ph_boo (k m1 m2 : Nat) : vp_nar .boolean (ph_h k m1 m2) = ph_h k m1 m2 := by
  unfold ph_h
  split <;> rfl
/-- the tokens of the query -/
def ph_T (k x y : Nat) (a4 : Nat → Int32) : Prop := k < 4 ∧ x < 4 ∧ y < 4 ∧ a4 0 = nI 23 ∧ a4 1 = nI (ph_q k) ∧ a4 2 = nI x ∧ a4 3 = nI y
/-- the places of its two words in document d -/
def ph_P (x y d m1 m2 : Nat) (a3 : Nat → Int32) : Prop := m1 < 4 ∧ m2 < 4 ∧ a3 (d * 12 + x) = nI m1 ∧ a3 (d * 12 + y) = nI m2
section
variable {f0 f1 : Int32} {a1 a2 a3 a4 a5 a6 a7 a8 a9 : Nat → Int32} {post : Int32 → St2 → Prop} {k x y d m1 m2 : Nat}
theorem ph_compl (T : ph_T k x y a4) (H : ∀ a5' a6' a7', a5' 1 = nI 3 → post 1 (nI 4, nI 0, a1, a2, a3, a4, a5', a6', a7', a8, a9)) : wpX_complete post (nI 4, f1, a1, a2, a3, a4, a5, a6, a7, a8, a9) := by
  obtain ⟨hk, hx, hy, h0, h1, h2, h3⟩ := T
  unfold wpX_complete
  exact ph_read4 h0 h1 (ph_q1 k hk).1 (ph_q1 k hk).2 h2 (by omega) h3 (by omega) (fun a5' a6' a7' e => pk_le 4 0 (fun z => absurd z (by omega)) (fun _ => br_t rfl (H a5' a6' a7' e)))
theorem ph_wkX {n : Nat} (H : post 1 (f0, f1, a1, a2, a3, a4, a5, a6, a7, a8, a9)) : wX_work_16 post (nI d) (n + 1) (nI 0 + (-1)) f0 f1 a1 a2 a3 a4 a5 a6 a7 a8 a9 :=
  br_t (by decide) H
theorem ph_wkW {n j w : Nat} {m : Int32} (hj : j < 12) (hd : d < 6) (h4 : a4 j = nI w) (hw : w < 4) (hm : a3 (d * 12 + w) = m) (H : ∀ a8', (∀ b, b < 24 → a8' (j * 24 + b) = ph_w m b) → (∀ i, i < j * 24 ∨ j * 24 + 24 ≤ i → a8' i = a8 i) → wX_work_16 post (nI d) n (nI j + (-1)) f0 f1 a1 a2 a3 a4 a5 a6 a7 a8' a9) : wX_work_16 post (nI d) (n + 1) (nI j) f0 f1 a1 a2 a3 a4 a5 a6 a7 a8 a9 := by
  have e : nI d * 12 + nI w = nI (d * 12 + w) := by
    show nI d * nI 12 + nI w = _
    rw [pk_mul, nI_add]
  refine pk_lt j 0 (fun z => absurd z (by omega)) (fun _ => ⟨pk_in j 12 hj, nm_r (show a4 (nI j).toNatClampNeg = nI w by rw [nI_clamp (by omega)]; exact h4) (pk_le 12 w (fun z => absurd z (by omega)) (fun _ => ⟨pk_in (d * 12 + w) 72 (by omega) e, ?_⟩))⟩)
  rw [e, nI_clamp (by omega), hm]
  exact ph_wordG hj (fun a8' g1 g2 => nm_e (H a8' g1 g2))
theorem ph_wkC {n : Nat} {p q : Nat → Int32} (hk : k < 4) (h4 : a4 1 = nI (ph_q k)) (h5 : a5 1 = nI 3) (hp : ∀ b, b < 24 → a8 (48 + b) = p b) (hq : ∀ b, b < 24 → a8 (72 + b) = q b) (H : ∀ a8', (∀ b, b < 24 → a8' (24 + b) = ph_row k p q b) → wX_work_16 post (nI d) n (nI 0) f0 f1 a1 a2 a3 a4 a5 a6 a7 a8' a9) : wX_work_16 post (nI d) (n + 1) (nI 1) f0 f1 a1 a2 a3 a4 a5 a6 a7 a8 a9 := by
  have hq12 := (ph_q1 k hk).1
  have hq18 := (ph_q1 k hk).2
  exact pk_lt 1 0 (fun z => absurd z (by omega)) (fun _ => ⟨pk_in 1 12 (by omega), nm_r h4 (pk_le 12 (ph_q k) (fun _ => ph_span rfl hq18 (br_f (by decide) (ph_comb hk rfl h5 hp hq (fun a8' g => nm_r (pk_m1 0) (H a8' g))))) (fun z => absurd z (by omega)))⟩)
theorem ph_wk0 {n : Nat} (hk : k < 4) (hm1 : m1 < 4) (hm2 : m2 < 4) (h4 : a4 0 = nI 23) (hr : ∀ b, b < 24 → a8 (24 + b) = nI (ph_R k m1 m2 b)) (H : wX_work_16 post (nI d) n (nI 0 + (-1)) f0 f1 a1 a2 a3 a4 a5 a6 a7 a8 (upd a9 0 (ph_h k m1 m2))) : wX_work_16 post (nI d) (n + 1) (nI 0) f0 f1 a1 a2 a3 a4 a5 a6 a7 a8 a9 := by
  have hv : ph_h k m1 m2 = if ph_fst (fun b => nI (ph_R k m1 m2 b)) 24 0 < 0 then 0 else 1 := by
    have e : ph_fst (fun b => nI (ph_R k m1 m2 b)) 24 0 = ph_f k m1 m2 := ph_Ff k hk m1 hm1 m2 hm2
    rw [e]
    rfl
  refine pk_lt 0 0 (fun z => absurd z (by omega)) (fun _ => ⟨pk_in 0 12 (by omega), nm_r h4 (br_t (by decide) ?_)⟩)
  refine br_f (by decide) (br_t (by decide) (br_t rfl (ph_cond hr hv ⟨pk_in 0 12 (by omega), nm_r ?_ (nm_e H)⟩)))
  show upd a9 0 (vp_nar .boolean (ph_h k m1 m2)) = upd a9 0 (ph_h k m1 m2)
  rw [ph_boo]
theorem ph_work (hd : d < 6) (T : ph_T k x y a4) (P : ph_P x y d m1 m2 a3)
    (H : ∀ f1' a5' a6' a7' a8' a9', (∀ b, b < 24 → a8' (24 + b) = nI (ph_R k m1 m2 b)) → a9' 0 = ph_h k m1 m2 → post 1 (nI 4, f1', a1, a2, a3, a4, a5', a6', a7', a8', a9')) : wpX_work post (nI 4, f1, a1, a2, a3, a4, a5, a6, a7, a8, a9) (nI d) := by
  unfold wpX_work
  refine ph_compl T (fun a5' a6' a7' e5 => br_f (by decide) (nm_r (show nI 4 - 1 = nI 3 by decide) ⟨5, ?_⟩))
  obtain ⟨hk, hx, hy, h0, h1, h2, h3⟩ := T
  obtain ⟨hm1, hm2, e1, e2⟩ := P
  refine ph_wkW (j := 3) (by omega) hd h3 hy e2 (fun b8 g1 g2 => ?_)
  rw [pk_m1]
  refine ph_wkW (j := 2) (by omega) hd h2 hx e1 (fun c8 g3 g4 => ?_)
  rw [pk_m1]
  refine ph_wkC (p := ph_w (nI m1)) (q := ph_w (nI m2)) hk h1 e5 g3 (fun b hb => ?_) (fun d8 g5 => ?_)
  · rw [g4 (72 + b) (by omega)]
    exact g1 b hb
  · have g6 : ∀ b, b < 24 → d8 (24 + b) = nI (ph_R k m1 m2 b) := fun b hb => by rw [g5 b hb, ph_rR hk hm1 hm2 hb]
    exact ph_wk0 hk hm1 hm2 h0 g6 (ph_wkX (H _ _ _ _ _ _ g6 pk_us))
theorem ph_spanOf (T : ph_T k x y a4) (P : ph_P x y 2 m1 m2 a3)
    (H : ∀ f1' a5' a6' a7' a8' a9', (∀ b, b < 24 → a8' (24 + b) = nI (ph_R k m1 m2 b)) → post (nI 1) (nI 4, f1', a1, a2, a3, a4, a5', a6', a7', a8', a9')) : wpX_spanOf post (nI 4, f1, a1, a2, a3, a4, a5, a6, a7, a8, a9) 0 2 := by
  unfold wpX_spanOf
  have h0 := T.2.2.2.1
  refine ph_doc (d := 2) (by omega) (br_f (by decide) (br_f (by decide) (ph_work (d := 2) (by omega) T P (fun f1' a5' a6' a7' a8' a9' g _ => br_f (by decide) ⟨1, ?_⟩))))
  refine br_f (by decide) ⟨pk_in 0 12 (by omega), br_t h0 (br_t rfl ?_)⟩
  exact ek_v (P := fun r => post r (nI 4, f1', a1, a2, a3, a4, a5', a6', a7', a8', a9')) (show (0 : Int32) + 1 = nI 1 by decide) (H f1' a5' a6' a7' a8' a9' g)
theorem ph_onesG {po : Int32 → Prop} {s : Int32} (H : po (ph_ones s 24)) : wpX_ones po () s :=
  pk_loop (fun n i v => wX_ones_4 po s n v (nI i)) (fun i v => v = ph_ones s i) 24 0 0 (by omega) rfl
    (fun n v h => pk_le 24 24 (fun _ => by rw [h]; exact H) (fun z => absurd z (by omega)))
    (fun n i v hi h hw => pk_le 24 i (fun z => absurd z (by omega)) (fun _ => nm_e (nm_r (nI_1 i) (hw _ (by rw [h]; rfl)))))
theorem ph_spL {r : Nat → Int32} (hr : ∀ b, b < 24 → a8 (24 + b) = r b) (H : post (ph_sum r 24) (f0, f1, a1, a2, a3, a4, a5, a6, a7, a8, a9)) : ∃ fu, wX_spans_19 post (nI 1) f0 f1 a1 a2 a3 a4 a5 a6 a7 a8 a9 fu 0 0 :=
  pk_loop (fun n i v => wX_spans_19 post (nI 1) f0 f1 a1 a2 a3 a4 a5 a6 a7 a8 a9 n v (nI i)) (fun i v => v = ph_sum r i) 24 0 0 (by omega) rfl
    (fun n v h => pk_le 24 24 (fun _ => by rw [h]; exact H) (fun z => absurd z (by omega)))
    (fun n i v hi h hw => pk_le 24 i (fun z => absurd z (by omega)) (fun _ => by
      have e : nI 1 * 24 + nI i = nI (24 + i) := by
        show nI 1 * nI 24 + nI i = _
        rw [pk_mul, nI_add]
      refine ⟨pk_in (24 + i) 288 (by omega) e, ?_⟩
      rw [e, nI_clamp (by omega), hr i hi]
      exact ph_onesG (nm_e (nm_r (nI_1 i) (hw _ (by rw [h]; rfl))))))
theorem ph_spans (T : ph_T k x y a4) (P : ph_P x y 2 m1 m2 a3)
    (H : ∀ f1' a5' a6' a7' a8' a9', post (ph_N k m1 m2) (nI 4, f1', a1, a2, a3, a4, a5', a6', a7', a8', a9')) : wpX_spans post (nI 4, f1, a1, a2, a3, a4, a5, a6, a7, a8, a9) 0 2 := by
  unfold wpX_spans
  exact ph_spanOf T P (fun f1' a5' a6' a7' a8' a9' g => br_t (by decide) (ph_spL g (H f1' a5' a6' a7' a8' a9')))
theorem ph_begins (T : ph_T k x y a4) (P : ph_P x y 2 m1 m2 a3)
    (H : ∀ f1' a5' a6' a7' a8' a9', post (ph_F k m1 m2) (nI 4, f1', a1, a2, a3, a4, a5', a6', a7', a8', a9')) : wpX_begins post (nI 4, f1, a1, a2, a3, a4, a5, a6, a7, a8, a9) 0 2 0 := by
  unfold wpX_begins
  exact ph_spanOf T P (fun f1' a5' a6' a7' a8' a9' g => br_t (by decide) (ph_fb g (H f1' a5' a6' a7' a8' a9')))
theorem ph_holds (hd : d < 6) (T : ph_T k x y a4) (P : ph_P x y d m1 m2 a3)
    (H : ∀ f1' a5' a6' a7' a8' a9', post (ph_h k m1 m2) (nI 4, f1', a1, a2, a3, a4, a5', a6', a7', a8', a9')) : wpX_holds post (nI 4, f1, a1, a2, a3, a4, a5, a6, a7, a8, a9) (nI d) := by
  unfold wpX_holds
  refine ph_doc hd (br_f (by decide) (ph_work hd T P (fun f1' a5' a6' a7' a8' a9' _ g => br_f (by decide) ?_)))
  have h := H f1' a5' a6' a7' a8' a9'
  unfold ph_h at h g
  by_cases c : ph_f k m1 m2 < 0
  · rw [if_pos c] at h g
    exact br_t g h
  · rw [if_neg c] at h g
    exact br_f (by rw [g]; decide) h
/-- the set after the documents below i -/
def ph_S (h : Int32) (i : Nat) : Int32 := if i ≤ 2 then 0 else if h = 0 then 0 else 4
theorem ph_match (T : ph_T k x y a4) (P : ph_P x y 2 m1 m2 a3) (P0 : ∀ d, d ≠ 2 → ph_P x y d 0 0 a3)
    (H : ∀ f1' a5' a6' a7' a8' a9', post (ph_S (ph_h k m1 m2) 6) (nI 4, f1', a1, a2, a3, a4, a5', a6', a7', a8', a9')) : wpX_matching post (nI 4, f1, a1, a2, a3, a4, a5, a6, a7, a8, a9) := by
  refine pk_loop (fun n i (s : Int32 × Int32 × (Nat → Int32) × (Nat → Int32) × (Nat → Int32) × (Nat → Int32) × (Nat → Int32)) => wX_matching_4 post n s.1 (nI i) (nI 4) s.2.1 a1 a2 a3 a4 s.2.2.1 s.2.2.2.1 s.2.2.2.2.1 s.2.2.2.2.2.1 s.2.2.2.2.2.2) (fun i s => s.1 = ph_S (ph_h k m1 m2) i) 6 0 (0, f1, a5, a6, a7, a8, a9) (by omega) rfl
    (fun n s h => pk_le 6 6 (fun _ => by rw [h]; exact H _ _ _ _ _ _) (fun z => absurd z (by omega))) ?_
  intro n i s hi h hw
  refine pk_le 6 i (fun z => absurd z (by omega)) (fun _ => ?_)
  by_cases hd : i = 2
  · subst hd
    have e0 : s.1 = 0 := h
    refine ph_holds (by omega) T P (fun f1' a5' a6' a7' a8' a9' => br_c (fun c => nm_e (nm_r (nI_1 2) (hw (_, _, _, _, _, _, _) ?_))) (fun c => nm_e (nm_r (nI_1 2) (hw (_, _, _, _, _, _, _) ?_))))
    · show s.1 ||| 0 = (if 3 ≤ 2 then 0 else if ph_h k m1 m2 = 0 then 0 else 4)
      rw [if_neg (by omega), if_pos c, e0]
      decide
    · show s.1 ||| ((1 : Int32) <<< (nI 2 &&& 31)) = (if 3 ≤ 2 then 0 else if ph_h k m1 m2 = 0 then 0 else 4)
      rw [if_neg (by omega), if_neg c, e0]
      decide
  · have hk := T.1
    refine ph_holds hi T (P0 i hd) (fun f1' a5' a6' a7' a8' a9' => br_t (ph_h0 k hk) (nm_e (nm_r (nI_1 i) (hw (_, _, _, _, _, _, _) ?_))))
    show s.1 ||| 0 = ph_S (ph_h k m1 m2) (i + 1)
    rw [Int32.or_zero, h]
    unfold ph_S
    by_cases c : i ≤ 2
    · rw [if_pos c, if_pos (by omega)]
    · rw [if_neg c, if_neg (show ¬ i + 1 ≤ 2 by omega)]
end
end
section
/-! the law: what it computes from the answers, and the top -/
def ph_v368 (z0 z1 : Int32) : Int32 := if z1 = z0 then 1 else 0
def ph_v334 (x12 x13 x14 x15 x19 z0 : Int32) : Int32 := if x12 = 4 then (if x13 = x19 then (if x14 = z0 then (if x19 ≤ 0 then ph_v368 0 x15 else ph_v368 4 x15) else 0) else 0) else 0
def ph_v303 (x10 x12 x13 x14 x15 x16 z0 : Int32) : Int32 := if z0 = 0 then ph_v334 x12 x13 x14 x15 z0 (-1) else if x10 = 2 then ph_v334 x12 x13 x14 x15 z0 0 else if x16 = 0 then ph_v334 x12 x13 x14 x15 z0 1 else ph_v334 x12 x13 x14 x15 z0 0
def ph_v264 (x7 x8 x10 x12 x13 x14 x15 x16 z0 : Int32) : Int32 := if x7 = x8 then ph_v303 x10 x12 x13 x14 x15 x16 (z0 + 1) else ph_v303 x10 x12 x13 x14 x15 x16 (z0 + 0)
def ph_v247 (x6 x7 x8 x10 x12 x13 x14 x15 x16 x18 : Int32) : Int32 := if x18 = 0 then ph_v303 x10 x12 x13 x14 x15 x16 0 else if x6 = x8 then ph_v264 x7 x8 x10 x12 x13 x14 x15 x16 1 else ph_v264 x7 x8 x10 x12 x13 x14 x15 x16 0
def ph_v221 (x10 x12 x13 x14 x15 x16 x17 z0 : Int32) : Int32 := if x17 = 0 then ph_v303 x10 x12 x13 x14 x15 x16 (z0 + 0) else ph_v303 x10 x12 x13 x14 x15 x16 (z0 + 1)
def ph_v204 (x6 x7 x8 x9 x10 x12 x13 x14 x15 x16 x17 z0 : Int32) : Int32 :=
  if x10 = 0 then (if x16 = 0 then ph_v221 x10 x12 x13 x14 x15 x16 x17 0 else ph_v221 x10 x12 x13 x14 x15 x16 x17 1)
  else if x10 = 1 then ph_v247 x6 x7 x8 x10 x12 x13 x14 x15 x16 z0
  else if x10 = 3 then ph_v247 x6 x7 x8 x10 x12 x13 x14 x15 x16 z0
  else if x6 = x8 then (if x7 = x9 then ph_v303 x10 x12 x13 x14 x15 x16 1 else ph_v303 x10 x12 x13 x14 x15 x16 0) else ph_v303 x10 x12 x13 x14 x15 x16 0
def ph_v190 (x6 x7 x8 x9 x10 x12 x13 x14 x15 x16 z0 : Int32) : Int32 := if x8 = x9 then ph_v204 x6 x7 x8 x9 x10 x12 x13 x14 x15 x16 z0 1 else ph_v204 x6 x7 x8 x9 x10 x12 x13 x14 x15 x16 z0 0
def ph_v164 (x6 x7 x8 x9 x10 x12 x13 x14 x15 z0 : Int32) : Int32 := if x7 = x8 then ph_v190 x6 x7 x8 x9 x10 x12 x13 x14 x15 z0 1 else if x10 = 0 then (if x7 = x9 then ph_v190 x6 x7 x8 x9 x10 x12 x13 x14 x15 z0 1 else ph_v190 x6 x7 x8 x9 x10 x12 x13 x14 x15 z0 0) else ph_v190 x6 x7 x8 x9 x10 x12 x13 x14 x15 z0 0
def ph_v61 (x6 x7 x8 x9 x10 x12 x13 x14 x15 : Int32) : Int32 := if x6 = x8 then ph_v164 x6 x7 x8 x9 x10 x12 x13 x14 x15 1 else if x10 = 0 then (if x6 = x9 then ph_v164 x6 x7 x8 x9 x10 x12 x13 x14 x15 1 else ph_v164 x6 x7 x8 x9 x10 x12 x13 x14 x15 0) else ph_v164 x6 x7 x8 x9 x10 x12 x13 x14 x15 0
/-- a branch of the law against a branch of its value -/
theorem ph_br {post : Int32 → St0 → Prop} {c A B : Prop} [Decidable c] {u v : Int32} (h : post (if c then u else v) ()) (hA : post u () → A) (hB : post v () → B) : (c → A) ∧ (¬ c → B) :=
  ⟨fun hc => hA (by rwa [if_pos hc] at h), fun hc => hB (by rwa [if_neg hc] at h)⟩
section
variable {post : Int32 → St0 → Prop} {mc ms kc ks : Nat} {x6 x7 x8 x9 x10 x12 x13 x14 x15 x16 x17 x18 x19 z0 z1 : Int32}
theorem ph_l368 (h : post (ph_v368 z0 z1) ()) : wL_lawOf_368 post mc ms z0 z1 kc ks := ph_br h id id
theorem ph_l334 (h : post (ph_v334 x12 x13 x14 x15 x19 z0) ()) : wL_lawOf_334 post mc ms x12 x13 x14 x15 x19 z0 kc ks :=
  ph_br h (fun h => ph_br h (fun h => ph_br h (fun h => ph_br h ph_l368 ph_l368) id) id) id
theorem ph_l303 (h : post (ph_v303 x10 x12 x13 x14 x15 x16 z0) ()) : wL_lawOf_303 post mc ms x10 x12 x13 x14 x15 x16 z0 kc ks :=
  ph_br h ph_l334 (fun h => ph_br h ph_l334 (fun h => ph_br h ph_l334 ph_l334))
theorem ph_l264 (h : post (ph_v264 x7 x8 x10 x12 x13 x14 x15 x16 z0) ()) : wL_lawOf_264 post mc ms x7 x8 x10 x12 x13 x14 x15 x16 z0 kc ks := by
  unfold wL_lawOf_264 wL_lawOf_276
  exact ph_br h ph_l303 ph_l303
theorem ph_l247 (h : post (ph_v247 x6 x7 x8 x10 x12 x13 x14 x15 x16 x18) ()) : wL_lawOf_247 post mc ms x6 x7 x8 x10 x12 x13 x14 x15 x16 x18 kc ks :=
  ph_br h ph_l303 (fun h => ph_br h ph_l264 ph_l264)
theorem ph_l221 (h : post (ph_v221 x10 x12 x13 x14 x15 x16 x17 z0) ()) : wL_lawOf_221 post mc ms x10 x12 x13 x14 x15 x16 x17 z0 kc ks := by
  unfold wL_lawOf_221 wL_lawOf_231
  exact ph_br h ph_l303 ph_l303
theorem ph_l204 (h : post (ph_v204 x6 x7 x8 x9 x10 x12 x13 x14 x15 x16 x17 z0) ()) : wL_lawOf_204 post mc ms x6 x7 x8 x9 x10 x12 x13 x14 x15 x16 x17 z0 kc ks := by
  unfold wL_lawOf_204 wL_lawOf_302
  exact ph_br h (fun h => ph_br h ph_l221 ph_l221) (fun h => ph_br h ph_l247 (fun h => ph_br h ph_l247 (fun h => ph_br h (fun h => ph_br h ph_l303 ph_l303) ph_l303)))
theorem ph_l190 (h : post (ph_v190 x6 x7 x8 x9 x10 x12 x13 x14 x15 x16 z0) ()) : wL_lawOf_190 post mc ms x6 x7 x8 x9 x10 x12 x13 x14 x15 x16 z0 kc ks :=
  ph_br h ph_l204 ph_l204
theorem ph_l164 (h : post (ph_v164 x6 x7 x8 x9 x10 x12 x13 x14 x15 z0) ()) : wL_lawOf_164 post mc ms x6 x7 x8 x9 x10 x12 x13 x14 x15 z0 kc ks := by
  unfold wL_lawOf_164 wL_lawOf_185 wL_lawOf_189
  exact ph_br h ph_l190 (fun h => ph_br h (fun h => ph_br h ph_l190 ph_l190) ph_l190)
end
/-- the plain law: the answers are what the law says is due -/
theorem ph_law : ∀ k, k < 4 → ∀ a, a < 4 → ∀ b, b < 4 → ∀ x, x < 4 → ∀ y, y < 4 → ph_v61 (nI a) (nI b) (nI x) (nI y) (nI k) 4 (nI (ph_n k (ph_m a b x) (ph_m a b y))) (ph_f k (ph_m a b x) (ph_m a b y)) (ph_S (ph_h k (ph_m a b x) (ph_m a b y)) 6) = 1 := by decide +kernel
theorem ph_61 {mc ms kc ks k a b x y : Nat} {t : Int32} (hk : k < 4) (ha : a < 4) (hb : b < 4) (hx : x < 4) (hy : y < 4) (ht : t = nI (ph_q k)) :
    wL_lawOf_61 (fun r _ => r = 1) mc ms (nI a) (nI b) (nI x) (nI y) (nI k) t kc ks (nI 0) (nI 0) (fun _ => 0) (fun _ => 0) (fun _ => 0) (fun _ => 0) (fun _ => 0) (fun _ => 0) (fun _ => 0) (fun _ => 0) (fun _ => 0) := by
  subst ht
  unfold wL_lawOf_61
  have hq := ph_q1 k hk
  refine ph_write (p := 0) (by omega) ha rfl (fun a1 a2 e1 => ?_)
  refine ph_write (p := 1) (by omega) hb e1 (fun b1 b2 _ => ?_)
  refine ph_ask0 ?_
  refine ph_ask1 (by rfl) hq.2 (fun c6 c7 => ?_)
  refine ph_ask2 (q := ph_q k) (by rfl) (by rfl) hq.1 hq.2 (by omega) (fun d6 d7 => ?_)
  refine ph_ask3 (q := ph_q k) (x := x) (by rfl) (by rfl) hq.1 hq.2 (by rfl) (by omega) (by omega) (fun e6 e7 => ?_)
  have T : ph_T k x y (upd (upd (upd (upd (fun _ => 0) 0 (nI 23)) 1 (nI (ph_q k))) 2 (nI x)) 3 (nI y)) := ⟨hk, hx, hy, by rfl, by rfl, by rfl, by rfl⟩
  have P : ph_P x y 2 (ph_m a b x) (ph_m a b y) (ph_A3 a b) := ⟨ph_mlt a b x, ph_mlt a b y, ph_A2 a ha b hb x hx, ph_A2 a ha b hb y hy⟩
  have P0 : ∀ d, d ≠ 2 → ph_P x y d 0 0 (ph_A3 a b) := fun d hd => ⟨by omega, by omega, ph_A0 ha hb hx hd, ph_A0 ha hb hy hd⟩
  refine ph_spans T P (fun g1 g5 g6 g7 g8 g9 => ?_)
  refine ph_begins T P (fun h1 h5 h6 h7 h8 h9 => ?_)
  refine ph_match T P P0 (fun i1 i5 i6 i7 i8 i9 => ?_)
  have h := ph_law k hk a ha b hb x hx y hy
  rw [ph_Nn k hk _ (ph_mlt a b x) _ (ph_mlt a b y), ph_Ff k hk _ (ph_mlt a b x) _ (ph_mlt a b y)]
  unfold wL_lawOf_159 wL_lawOf_163
  exact ph_br (post := fun r _ => r = 1) h (ph_l164 (post := fun r _ => r = 1)) (fun h => ph_br (post := fun r _ => r = 1) h (fun h => ph_br (post := fun r _ => r = 1) h (ph_l164 (post := fun r _ => r = 1)) (ph_l164 (post := fun r _ => r = 1))) (ph_l164 (post := fun r _ => r = 1)))
theorem ph_cell {post : Int32 → Prop} {L i : Nat} {xs : Nat → Int32} {p : Int32} (hL : L ≤ 5) (hi : i < 5) (hp : p = nI i) (h : ∀ v, post v) : wpL_cellAt post L xs () p :=
  pk_le L i (fun _ => h 0) (fun z => ⟨pk_in i L z hp, h _⟩) rfl hp
theorem ph_lawOf (p0 p1 p2 p3 p4 : Int32) : wpL_lawOf (fun r _ => r = 1) 10 585 () p0 p1 p2 p3 p4 := by
  obtain ⟨a, ha, ea⟩ := pk_andE p0 (m := 3) 2 (by decide)
  obtain ⟨b, hb, eb⟩ := pk_andE p1 (m := 3) 2 (by decide)
  obtain ⟨x, hx, ex⟩ := pk_andE p2 (m := 3) 2 (by decide)
  obtain ⟨y, hy, ey⟩ := pk_andE p3 (m := 3) 2 (by decide)
  obtain ⟨k, hk, ek⟩ := pk_andE p4 (m := 3) 2 (by decide)
  refine ⟨by omega, by omega, 9, 574, by omega, by omega, ?_⟩
  refine ⟨by omega, by omega, by omega, by omega, by omega, by omega, by omega, by omega, by omega, by omega, by omega, by omega, by omega, by omega, by omega, by omega, by omega, by omega, ?_⟩
  refine nm_r ea (nm_r eb (nm_r ex (nm_r ey (nm_r ek ?_))))
  refine pk_eq k 0 (fun e => ph_61 hk ha hb hx hy (by rw [e]; rfl)) (fun e0 => pk_eq k 3 (fun e => ph_61 hk ha hb hx hy (by rw [e]; rfl)) (fun e3 => ph_61 hk ha hb hx hy ?_))
  have hc : k = 1 ∨ k = 2 := by omega
  rcases hc with rfl | rfl <;> decide
theorem i_vc (xs : Nat → Int32) (L : Nat) (hL : L ≤ 5) : wpL_law (fun r => r = 1) L xs := by
  unfold wpL_law
  refine ph_cell (i := 0) hL (by omega) rfl (fun v0 => ph_cell (i := 1) hL (by omega) rfl (fun v1 => ph_cell (i := 2) hL (by omega) rfl (fun v2 => ph_cell (i := 3) hL (by omega) rfl (fun v3 => ph_cell (i := 4) hL (by omega) rfl (fun v4 => ⟨10, 585, by omega, by omega, ph_lawOf v0 v1 v2 v3 v4⟩)))))
end
