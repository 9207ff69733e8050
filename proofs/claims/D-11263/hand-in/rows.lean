section
/-! ===== bits ===== -/
theorem ck_and (a b : Nat) : nI a &&& nI b = nI (a &&& b) := by
  apply Int32.toBitVec_inj.1
  show BitVec.ofNat 32 a &&& BitVec.ofNat 32 b = BitVec.ofNat 32 (a &&& b)
  apply BitVec.eq_of_getLsbD_eq
  intro i hi
  simp [hi]
theorem ck_xor (a b : Nat) : nI a ^^^ nI b = nI (a ^^^ b) := by
  apply Int32.toBitVec_inj.1
  show BitVec.ofNat 32 a ^^^ BitVec.ofNat 32 b = BitVec.ofNat 32 (a ^^^ b)
  apply BitVec.eq_of_getLsbD_eq
  intro i hi
  simp [hi]
theorem ck_or (a b : Nat) : nI a ||| nI b = nI (a ||| b) := by
  apply Int32.toBitVec_inj.1
  show BitVec.ofNat 32 a ||| BitVec.ofNat 32 b = BitVec.ofNat 32 (a ||| b)
  apply BitVec.eq_of_getLsbD_eq
  intro i hi
  simp [hi]
theorem ck_not (b : Nat) : nI b ^^^ (-1) = nI (b ^^^ 4294967295) := by
  have e : (-1 : Int32) = nI 4294967295 := by decide
  rw [e, ck_xor]
theorem ck_or0 (a : Nat) : nI a ||| 0 = nI a := by
  have h := ck_or a 0
  rwa [nI_0, Nat.or_zero] at h
theorem ck_0or (a : Nat) : 0 ||| nI a = nI a := by
  have h := ck_or 0 a
  rwa [nI_0, Nat.zero_or] at h
theorem ck_sl : ∀ n, n < 32 → ((nI n &&& 31).toBitVec.smod 32).toNat = n := by decide +kernel
theorem ck_1sh : ∀ w, w < 31 → (1 : Int32) <<< (nI w &&& 31) = nI (2 ^ w) := by decide +kernel
theorem ck_i16 : ∀ x, x < 256 → (nI x).toInt16.toInt32 = nI x := by decide +kernel
theorem ck_i8 : ∀ x, x < 128 → (nI x).toInt8.toInt32 = nI x := by decide +kernel
theorem ck_vb {x : Nat} (h : x < 128) : vp_nar .byte (nI x) = nI x := by
  rw [vp_nar_byte, ck_i8 x h]
/-! ===== the executor ===== -/
/-- a bit -/
def ck_b (m w : Nat) : Nat := Nat.mod (Nat.shiftRight m w) 2
/-- joined[v] out of the code J -/
def ck_g (J v : Nat) : Nat := Nat.mod (Nat.shiftRight J (Nat.mul 8 v)) 256
/-- a without b -/
def ck_an (a b : Nat) : Nat := Nat.land a (Nat.xor b 4294967295)
/-- 0 is -1, k + 1 is k -/
def ck_d : Nat → Int32
  | 0 => -1
  | k + 1 => nI k
/-- ones below k -/
def ck_on (m : Nat) : Nat → Nat
  | 0 => 0
  | k + 1 => Nat.add (ck_on m k) (ck_b m k)
/-- neighbours of v within s -/
def ck_n (J s v : Nat) : Nat := bif Nat.beq (ck_b s v) 0 then 0 else ck_on (Nat.land (ck_g J v) s) 8
/-- withNeighbours: what is left of the loop, v, best, most -/
def ck_wn (J s l : Nat) : Nat → Nat → Nat → Nat → Nat
  | 0, _, b, _ => b
  | f + 1, v, b, m =>
    bif (bif Nat.beq l 0 then Nat.blt m (ck_n J s v) else Nat.beq (ck_n J s v) 1) then ck_wn J s l f (v + 1) (v + 1) (ck_n J s v) else ck_wn J s l f (v + 1) b m
/-- push -/
def ck_pu (st : List (Nat × Nat)) (l t : Nat) (K : List (Nat × Nat) → Option Nat) : Option Nat :=
  bif and (Nat.blt st.length 64) (Nat.blt t 128) then K ((l, t) :: st) else none
/-- solve's loop -/
def ck_so (J : Nat) : Nat → Nat → List (Nat × Nat) → Option Nat
  | 0, b, _ => some b
  | _ + 1, b, [] => some b
  | f + 1, b, p :: st =>
    match ck_wn J p.1 0 8 0 0 0 with
    | 0 => ck_so J f (bif Nat.ble b p.2 then b else p.2) st
    | y + 1 =>
      bif Nat.ble b (Nat.add p.2 1) then ck_so J f b st
      else match ck_wn J p.1 1 8 0 0 0 with
        | 0 => ck_pu st (ck_an (ck_an p.1 (Nat.land (ck_g J y) p.1)) (Nat.pow 2 y)) (Nat.add p.2 (ck_on (Nat.land (ck_g J y) p.1) 8)) fun st1 => ck_pu st1 (ck_an p.1 (Nat.pow 2 y)) (Nat.add p.2 1) fun st2 => ck_so J f b st2
        | w + 1 => ck_pu st (ck_an p.1 (ck_g J w)) (Nat.add p.2 1) fun st1 => ck_so J f b st1
def ck_sv (J s : Nat) : Option Nat := ck_so J 512 100 [(s, 0)]
/-- allNeighbours -/
def ck_al (J o : Nat) : Nat → Nat → Nat → Nat
  | 0, _, a => a
  | f + 1, v, a => ck_al J o f (v + 1) (bif Nat.beq (ck_b o v) 0 then a else Nat.lor a (ck_g J v))
/-- forced(0, o), coded -/
def ck_fo (J o : Nat) : Option Nat :=
  bif Nat.beq (Nat.land (ck_al J o 8 0 0) o) 0 then
    match ck_sv J (ck_an (ck_an 255 (ck_al J o 8 0 0)) o) with
    | none => none
    | some r => some (Nat.add (Nat.add (ck_on (ck_al J o 8 0 0) 8) r) 1)
  else some 0
/-- always -/
def ck_ay (J g : Nat) : Nat → Nat → Nat → Option Nat
  | 0, _, s => some s
  | f + 1, v, s =>
    match ck_fo J (Nat.pow 2 v) with
    | none => none
    | some c => ck_ay J g f (v + 1) (bif Nat.beq c (Nat.add g 1) then s else Nat.lor s (Nat.pow 2 v))
/-- placeOf, coded -/
def ck_po (pa : List Nat) (u : Nat) : Nat → Nat → Nat
  | 0, _ => 0
  | f + 1, w => bif Nat.beq (pa.getD w 0) (Nat.add u 1) then Nat.add w 1 else ck_po pa u f (w + 1)
/-- change -/
def ck_ch (s : Nat) (ca : List Nat) : Nat → Nat → List Nat → Option (List Nat)
  | 0, _, pa => some pa
  | _ + 1, 0, pa => some pa
  | f + 1, w + 1, pa =>
    match ca.getD w 0 with
    | 0 => none
    | u + 1 => ck_ch s ca f (bif Nat.beq u s then 0 else ck_po pa u 8 0) (pa.set w (u + 1))
/-- augment: the inner loop -/
def ck_a42 (J r v u : Nat) (pa : List Nat) (K : Nat → List Nat → List Nat → Option (Option (List Nat))) : Nat → Nat → Nat → List Nat → List Nat → Option (Option (List Nat))
  | 0, _, s, ln, ca => K s ln ca
  | f + 1, w, s, ln, ca =>
    bif Nat.beq (ck_b (ck_an (Nat.land (ck_g J u) r) s) w) 0 then ck_a42 J r v u pa K f (w + 1) s ln ca
    else match pa.getD w 0 with
      | 0 =>
        match ck_ch v (ca.set w (u + 1)) 8 (w + 1) pa with
        | none => none
        | some q => some (some q)
      | y + 1 => bif Nat.blt ln.length 10 then ck_a42 J r v u pa K f (w + 1) (Nat.lor s (Nat.pow 2 w)) (ln ++ [y]) (ca.set w (u + 1)) else none
/-- .. and the outer one -/
def ck_a16 (J r v : Nat) (pa : List Nat) : Nat → Nat → Nat → List Nat → List Nat → Option (Option (List Nat))
  | 0, _, _, _, _ => some none
  | f + 1, k, s, ln, ca => bif Nat.ble ln.length k then some none else ck_a42 J r v (ln.getD k 0) pa (fun s1 ln1 ca1 => ck_a16 J r v pa f (k + 1) s1 ln1 ca1) 8 0 s ln ca
def ck_z : List Nat := [0, 0, 0, 0, 0, 0, 0, 0]
/-- match: the second loop -/
def ck_m26 (J l r : Nat) : Nat → Nat → Nat → List Nat → Option Nat
  | 0, _, n, _ => some n
  | f + 1, v, n, pa =>
    bif Nat.beq (ck_b l v) 0 then ck_m26 J l r f (v + 1) n pa
    else match ck_a16 J r v pa 9 0 0 [v] ck_z with
      | none => none
      | some none => ck_m26 J l r f (v + 1) n pa
      | some (some q) => ck_m26 J l r f (v + 1) (Nat.add n 1) q
def ck_ma (J l r : Nat) : Option Nat := ck_m26 J l r 8 0 0 ck_z
def ck_ow (v : Nat) : Nat := ck_an 255 (Nat.pow 2 v)
def ck_fa (J v : Nat) : Nat := ck_an (ck_ow v) (ck_g J v)
/-- costWith -/
def ck_co (J v : Nat) : Nat → Option Nat
  | 0 =>
    match ck_ma J (ck_fa J v) (ck_fa J v) with
    | none => none
    | some m => some (Nat.add (Nat.mul 2 (ck_on (ck_g J v) 8)) m)
  | 1 =>
    match ck_ma J (ck_fa J v) (ck_ow v) with
    | none => none
    | some m => some (Nat.add (Nat.add 1 (ck_on (ck_g J v) 8)) m)
  | _ + 2 =>
    match ck_ma J (ck_ow v) (ck_ow v) with
    | none => none
    | some m => some (Nat.add 2 m)
/-- whole (0, 1) and bare (1, 2); h: halves -/
def ck_wh (J h n1 n2 : Nat) : Nat → Nat → Nat → Option Nat
  | 0, _, s => some s
  | f + 1, v, s =>
    match ck_co J v n1 with
    | none => none
    | some c =>
      bif Nat.beq c h then ck_wh J h n1 n2 f (v + 1) s
      else match ck_co J v n2 with
        | none => none
        | some d => bif Nat.beq d h then ck_wh J h n1 n2 f (v + 1) s else ck_wh J h n1 n2 f (v + 1) (Nat.lor s (Nat.pow 2 v))
/-- pairs[j] out of the code T -/
def ck_tg (T j : Nat) : Nat := Nat.mod (Nat.shiftRight T (Nat.mul 4 j)) 16
/-- matching: the while loop, coded -/
def ck_lo (s : Nat) : Nat → Nat → Nat
  | 0, _ => 0
  | f + 1, v => bif Nat.beq (ck_b s v) 0 then ck_lo s f (v + 1) else Nat.add v 1
/-- .. the inner loop -/
def ck_mi (J T v x : Nat) : Nat → Nat → Nat → Nat
  | 0, _, m => m
  | f + 1, w, m =>
    bif Nat.beq (ck_b (Nat.land x (ck_g J v)) w) 0 then ck_mi J T v x f (w + 1) m
    else ck_mi J T v x f (w + 1) (bif Nat.ble (Nat.add 1 (ck_tg T (ck_an x (Nat.pow 2 w)))) m then m else Nat.add 1 (ck_tg T (ck_an x (Nat.pow 2 w))))
def ck_mx (J T v x : Nat) : Nat := ck_mi J T v x (Nat.sub 7 v) (Nat.add v 1) (ck_tg T x)
/-- .. and the outer one -/
def ck_mt (J : Nat) : Nat → Nat → Nat → Option Nat
  | 0, _, T => some (ck_tg T 255)
  | f + 1, s, T =>
    match ck_lo s 8 0 with
    | 0 => none
    | v + 1 =>
      bif and (Nat.blt (ck_an s (Nat.pow 2 v)) s) (Nat.blt (ck_mx J T v (ck_an s (Nat.pow 2 v))) 16) then
        ck_mt J f (s + 1) (Nat.add T (Nat.mul (ck_mx J T v (ck_an s (Nat.pow 2 v))) (Nat.pow 16 s)))
      else none
/-! ===== the executor's bounds ===== -/
theorem ck_b_lt (m w : Nat) : ck_b m w < 2 := Nat.mod_lt _ (by decide)
theorem ck_g_lt (J v : Nat) : ck_g J v < 256 := Nat.mod_lt _ (by decide)
theorem ck_tg_lt (T j : Nat) : ck_tg T j < 16 := Nat.mod_lt _ (by decide)
theorem ck_an_le (a b : Nat) : ck_an a b ≤ a := Nat.and_le_left
theorem ck_la_lt (J v s : Nat) : Nat.land (ck_g J v) s < 256 := Nat.lt_of_le_of_lt Nat.and_le_left (ck_g_lt J v)
theorem ck_on_le (m k : Nat) : ck_on m k ≤ k := by
  induction k with
  | zero => exact Nat.le_refl 0
  | succ k ih =>
    have hb := ck_b_lt m k
    show ck_on m k + ck_b m k ≤ k + 1
    omega
theorem ck_bit {m w : Nat} (hm : m < 2 ^ 31) (hw : w < 32) : (nI m >>> (nI w &&& 31)) &&& 1 = nI (ck_b m w) := by
  rw [pk_shrN hm _ w (ck_sl w hw)]
  show nI (m / 2 ^ w) &&& nI 1 = nI ((m >>> w) % 2)
  rw [ck_and, Nat.and_one_is_mod, Nat.shiftRight_eq_div_pow]
theorem ck_andn (a b : Nat) : nI a &&& (nI b ^^^ (-1)) = nI (ck_an a b) := by
  rw [ck_not, ck_and]
  rfl
/-- a byte and not a bit -/
theorem ck_andb (a : Nat) {w : Nat} (hw : w < 31) : nI a &&& (((1 : Int32) <<< (nI w &&& 31)) ^^^ (-1)) = nI (ck_an a (Nat.pow 2 w)) := by
  rw [ck_1sh w hw]
  exact ck_andn a (2 ^ w)
theorem ck_orb (a : Nat) {w : Nat} (hw : w < 31) : nI a ||| ((1 : Int32) <<< (nI w &&& 31)) = nI (Nat.lor a (Nat.pow 2 w)) := by
  rw [ck_1sh w hw]
  exact ck_or a (2 ^ w)
theorem ck_d_eq {c u : Nat} (hc : c < 2 ^ 31) (hu : u < 2 ^ 30) : ck_d c = nI u ↔ c = u + 1 := by
  cases c with
  | zero =>
    refine ⟨fun z => ?_, fun z => absurd z (by omega)⟩
    have h : ¬ (nI u < 0) := nI_pos (by omega)
    rw [← z] at h
    exact absurd (by decide : (-1 : Int32) < 0) h
  | succ k =>
    show nI k = nI u ↔ k + 1 = u + 1
    rw [nI_eq (by omega) (by omega)]
    omega
/-- the relation of the code J to joined -/
def ck_jr (J : Nat) (a : Nat → Int32) : Prop := ∀ v, v < 8 → a v = nI (ck_g J v)
theorem ck_jat {J : Nat} {a : Nat → Int32} (hj : ck_jr J a) {v : Nat} (hv : v < 8) : a (nI v).toNatClampNeg = nI (ck_g J v) := by
  rw [nI_clamp (by omega)]
  exact hj v hv
theorem ck_beq_t {a b : Nat} (h : a = b) : Nat.beq a b = true := by
  subst h
  exact Nat.beq_refl a
theorem ck_beq_f {a b : Nat} (h : a ≠ b) : Nat.beq a b = false := by
  cases e : Nat.beq a b with
  | false => rfl
  | true => exact absurd (Nat.eq_of_beq_eq_true e) h
theorem ck_ble_t {a b : Nat} (h : a ≤ b) : Nat.ble a b = true := Nat.ble_eq_true_of_le h
theorem ck_ble_f {a b : Nat} (h : b < a) : Nat.ble a b = false := by
  cases e : Nat.ble a b with
  | false => rfl
  | true => exact absurd (Nat.le_of_ble_eq_true e) (by omega)
theorem ck_blt_t {a b : Nat} (h : a < b) : Nat.blt a b = true := ck_ble_t h
theorem ck_blt_f {a b : Nat} (h : b ≤ a) : Nat.blt a b = false := ck_ble_f (by omega)
theorem ck_blt_lt {a b : Nat} (h : Nat.blt a b = true) : a < b := Nat.le_of_ble_eq_true h
end
section
/-! ===== small methods ===== -/
theorem ck_pw : ∀ v, v < 8 → 2 ^ v < 256 := by decide
theorem ck_iv {post : Int32 → Prop} {v : Nat} (hv : v < 8) (h : post 1) : wpX_isVertex post () (nI v) :=
  br_f (nI_pos (by omega)) (br_f (nI_ge (b := 8) hv (by decide)) h)
theorem ck_in {post : Int32 → Prop} {x y : Int32} {m w : Nat} (hm : m < 2 ^ 31) (hw : w < 32) (hx : x = nI m) (hy : y = nI w) (h0 : ck_b m w = 0 → post 0) (h1 : ck_b m w = 1 → post 1) : wpX_in post () x y := by
  subst hx hy
  unfold wpX_in
  rw [ck_bit hm hw]
  have hb := ck_b_lt m w
  exact pk_eq (ck_b m w) 0 (fun e => h0 e) (fun e => h1 (by omega))
theorem ck_inb {A B : Prop} {x y : Int32} {m w : Nat} (hm : m < 2 ^ 31) (hw : w < 32) (hx : x = nI m) (hy : y = nI w) (h0 : ck_b m w = 0 → A) (h1 : ck_b m w = 1 → B) : wpX_in (fun r => (r = 0 → A) ∧ (¬ r = 0 → B)) () x y :=
  ck_in hm hw hx hy (fun e => br_t rfl (h0 e)) (fun e => br_f (by decide) (h1 e))
theorem ck_ones {post : Int32 → Prop} {m : Nat} {x : Int32} (hm : m < 2 ^ 31) (hx : x = nI m) (h : post (nI (ck_on m 8))) : wpX_ones post () x := by
  subst hx
  exact pk_loop (σ := Unit) (fun n i _ => wX_ones_4 post (nI m) n (nI (ck_on m i)) (nI i)) (fun _ _ => True) 8 0 () (by omega) trivial
    (fun n _ _ => pk_le 8 8 (fun _ => h) (fun z => absurd z (by omega)))
    (fun n i _ hi _ hw => pk_le 8 i (fun z => absurd z (by omega)) (fun _ => nm_r (e' := nI (ck_on m (i + 1))) (by rw [ck_bit hm (by omega), nI_add]; rfl) (nm_r (nI_1 i) (hw () trivial))))
theorem ck_n_le (J s v : Nat) : ck_n J s v ≤ 8 := by
  unfold ck_n
  cases Nat.beq (ck_b s v) 0 with
  | true => exact Nat.zero_le 8
  | false => exact ck_on_le _ 8
theorem ck_n_0 {J s v : Nat} (h : ck_b s v = 0) : ck_n J s v = 0 := by
  unfold ck_n
  rw [ck_beq_t h]
  rfl
theorem ck_n_1 {J s v : Nat} (h : ck_b s v = 1) : ck_n J s v = ck_on (Nat.land (ck_g J v) s) 8 := by
  unfold ck_n
  rw [ck_beq_f (by omega)]
  rfl
section
variable {f0 : Int32} {a1 a2 a3 a4 a5 a6 a7 a8 a9 a10 : Nat → Int32} {J : Nat}
/-! ===== withNeighbours ===== -/
theorem ck_wn8 {post : Int32 → Prop} {s l : Nat} (hj : ck_jr J a1) (hs : s < 256) (hl : l < 2) {r : Nat} (H : r ≤ 8 → post (ck_d r)) :
    ∀ f v b m, v + f = 8 → b ≤ 8 → m ≤ 8 → ck_wn J s l f v b m = r → wX_withNeighbours_8 post (nI s) (nI l) f0 a1 a2 a3 a4 a5 a6 a7 a8 a9 a10 (f + 1) (ck_d b) (nI m) (nI v) := by
  intro f
  induction f with
  | zero =>
    intro v b m hv hb hm e
    have e' : b = r := e
    subst e'
    exact br_t (nI_le (a := 8) (by omega) (by omega)) (H hb)
  | succ f ih =>
    intro v b m hv hb hm e
    have hv8 : v < 8 := by omega
    have hn := ck_n_le J s v
    simp only [ck_wn] at e
    have K : wX_withNeighbours_40 post (wX_withNeighbours_8 post (nI s) (nI l) f0 a1 a2 a3 a4 a5 a6 a7 a8 a9 a10 (f + 1)) (nI s) (nI l) (ck_d b) (nI m) (nI v) (nI (ck_n J s v)) f0 a1 a2 a3 a4 a5 a6 a7 a8 a9 a10 := by
      refine pk_eq l 0 (fun z => ?_) (fun z => ?_)
      · rw [ck_beq_t z, cond_true] at e
        refine pk_le (ck_n J s v) m (fun g => nm_r (nI_1 v) ?_) (fun g => nm_r (nI_1 v) ?_)
        · rw [ck_blt_f g, cond_false] at e
          exact ih (v + 1) b m (by omega) hb hm e
        · rw [ck_blt_t g, cond_true] at e
          exact ih (v + 1) (v + 1) _ (by omega) (by omega) hn e
      · rw [ck_beq_f z, cond_false] at e
        refine pk_eq (ck_n J s v) 1 (fun g => nm_r (nI_1 v) ?_) (fun g => nm_r (nI_1 v) ?_)
        · rw [ck_beq_t g, cond_true] at e
          exact ih (v + 1) (v + 1) _ (by omega) (by omega) hn e
        · rw [ck_beq_f g, cond_false] at e
          exact ih (v + 1) b m (by omega) hb hm e
    refine br_f (nI_ge (b := 8) hv8 (by decide)) (ck_inb (m := s) (w := v) (by omega) (by omega) rfl rfl (fun z => ?_) (fun z => ⟨vp_in_nI hv8 (by decide), ck_ones (m := Nat.land (ck_g J v) s) (Nat.lt_trans (ck_la_lt J v s) (by decide)) ?_ ?_⟩))
    · rw [ck_n_0 z] at K
      exact K
    · rw [ck_jat hj hv8, ck_and]
      rfl
    · rw [ck_n_1 z] at K
      exact K
theorem ck_wnw {post : Int32 → Prop} {s l r : Nat} (hj : ck_jr J a1) (hs : s < 256) (hl : l < 2) (e : ck_wn J s l 8 0 0 0 = r) (H : r ≤ 8 → post (ck_d r)) : wpX_withNeighbours post (f0, a1, a2, a3, a4, a5, a6, a7, a8, a9, a10) (nI s) (nI l) :=
  ⟨8 + 1, ck_wn8 hj hs hl H 8 0 0 0 rfl (by omega) (by omega) e⟩
/-! ===== push and solve ===== -/
theorem ck_puw {post : St2 → Prop} {l t n : Nat} {x y : Int32} (hn : n < 64) (hl : l < 256) (ht : t < 128) (hx : x = nI l) (hy : y = nI t) (H : post (nI (n + 1), a1, upd a2 n (nI l), upd a3 n (nI t), a4, a5, a6, a7, a8, a9, a10)) : wpX_push post (nI n, a1, a2, a3, a4, a5, a6, a7, a8, a9, a10) x y := by
  subst hx hy
  exact ⟨vp_in_nI hn (by decide), nm_r (e' := upd a2 n (nI l)) (by rw [nI_clamp (by omega), ck_i16 l hl]) ⟨vp_in_nI hn (by decide), nm_r (e' := upd a3 n (nI t)) (by rw [nI_clamp (by omega), ck_i8 t ht]) (nm_r (nI_1 n) H)⟩⟩
def ck_st (b2 b3 : Nat → Int32) : List (Nat × Nat) → Prop
  | [] => True
  | p :: t => t.length < 64 ∧ p.1 < 256 ∧ p.2 < 128 ∧ b2 t.length = nI p.1 ∧ b3 t.length = nI p.2 ∧ ck_st b2 b3 t
theorem ck_st_up {b2 b3 : Nat → Int32} {k : Nat} {x y : Int32} : ∀ st : List (Nat × Nat), st.length ≤ k → ck_st b2 b3 st → ck_st (upd b2 k x) (upd b3 k y) st
  | [], _, _ => trivial
  | p :: t, h, ⟨h1, h2, h3, h4, h5, h6⟩ => by
    have hl : t.length + 1 ≤ k := h
    exact ⟨h1, h2, h3, by rw [pk_un (by omega)]; exact h4, by rw [pk_un (by omega)]; exact h5, ck_st_up t (by omega) h6⟩
theorem ck_st_pu {b2 b3 : Nat → Int32} {st : List (Nat × Nat)} {l t : Nat} (hn : st.length < 64) (hl : l < 256) (ht : t < 128) (h : ck_st b2 b3 st) : ck_st (upd b2 st.length (nI l)) (upd b3 st.length (nI t)) ((l, t) :: st) :=
  ⟨hn, hl, ht, pk_us, pk_us, ck_st_up st (Nat.le_refl _) h⟩
theorem ck_pu_inv {st : List (Nat × Nat)} {l t : Nat} {K : List (Nat × Nat) → Option Nat} {r : Nat} (h : ck_pu st l t K = some r) : st.length < 64 ∧ t < 128 ∧ K ((l, t) :: st) = some r := by
  unfold ck_pu at h
  cases e : and (Nat.blt st.length 64) (Nat.blt t 128) with
  | false =>
    rw [e, cond_false] at h
    exact absurd h (by simp)
  | true =>
    rw [e, cond_true] at h
    rw [Bool.and_eq_true] at e
    exact ⟨ck_blt_lt e.1, ck_blt_lt e.2, h⟩
theorem ck_so16 {post : Int32 → St2 → Prop} (hj : ck_jr J a1) {r : Nat} (H : ∀ f b2 b3, r < 128 → post (nI r) (f, a1, b2, b3, a4, a5, a6, a7, a8, a9, a10)) :
    ∀ (f k b : Nat) (st : List (Nat × Nat)) (b2 b3 : Nat → Int32), k + f = 512 → b < 128 → ck_st b2 b3 st → ck_so J f b st = some r → wX_solve_16 post (f + 1) (nI b) (nI k) (nI st.length) a1 b2 b3 a4 a5 a6 a7 a8 a9 a10 := by
  intro f
  induction f with
  | zero =>
    intro k b st b2 b3 hk hb hs h
    simp only [ck_so, Option.some.injEq] at h
    subst h
    exact br_t (nI_le (a := 512) (by omega) (by omega)) (H _ _ _ hb)
  | succ f ih =>
    intro k b st b2 b3 hk hb hs h
    cases st with
    | nil =>
      simp only [ck_so, Option.some.injEq] at h
      subst h
      exact br_f (nI_ge (b := 512) (by omega) (by decide)) (br_t (nI_le (a := 0) (b := 0) (by omega) (by omega)) (H _ _ _ hb))
    | cons p t =>
      obtain ⟨h1, h2, h3, h4, h5, h6⟩ := hs
      show wX_solve_16 post (f + 1 + 1) (nI b) (nI k) (nI (t.length + 1)) a1 b2 b3 a4 a5 a6 a7 a8 a9 a10
      simp only [ck_so] at h
      refine br_f (nI_ge (b := 512) (by omega) (by decide)) (br_f (nI_nle (by omega) (by omega)) (nm_r (nI_pred t.length) ⟨vp_in_nI h1 (by decide), nm_r (e' := nI p.1) (by rw [nI_clamp (by omega)]; exact h4) ⟨vp_in_nI h1 (by decide), nm_r (e' := nI p.2) (by rw [nI_clamp (by omega)]; exact h5) ?_⟩⟩))
      refine ck_wnw (l := 1) hj h2 (by omega) rfl (fun q1 => ck_wnw (l := 0) hj h2 (by omega) rfl (fun q0 => ?_))
      generalize ck_wn J p.1 0 8 0 0 0 = y0 at h q0
      generalize ck_wn J p.1 1 8 0 0 0 = y1 at h q1
      cases y0 with
      | zero =>
        dsimp only at h
        refine br_f (by decide) (pk_le b p.2 (fun z => nm_r (nI_1 k) ?_) (fun z => nm_r (nI_1 k) ?_))
        · rw [ck_ble_t z, cond_true] at h
          exact ih (k + 1) b t b2 b3 (by omega) hb h6 h
        · rw [ck_ble_f z, cond_false] at h
          exact ih (k + 1) p.2 t b2 b3 (by omega) h3 h6 h
      | succ y =>
        dsimp only at h
        have hy8 : y < 8 := by omega
        refine br_t (nI_pos' (n := y) (by omega)) (pk_le b (p.2 + 1) (fun z => ?_) (fun z => ?_) (hy := nI_1 p.2))
        · refine pk_le b (p.2 + 1) (fun _ => nm_r (nI_1 k) ?_) (fun z2 => absurd z2 (by omega)) (hy := nI_1 p.2)
          rw [ck_ble_t (show b ≤ Nat.add p.2 1 from z), cond_true] at h
          exact ih (k + 1) b t b2 b3 (by omega) hb h6 h
        · rw [ck_ble_f (show Nat.add p.2 1 < b from z), cond_false] at h
          cases y1 with
          | zero =>
            dsimp only at h
            obtain ⟨l1, t1, h⟩ := ck_pu_inv h
            obtain ⟨l2, t2, h⟩ := ck_pu_inv h
            have m1 := Nat.lt_of_le_of_lt (ck_an_le p.1 (Nat.pow 2 y)) h2
            have m2 := Nat.lt_of_le_of_lt (ck_an_le (ck_an p.1 (Nat.land (ck_g J y) p.1)) (Nat.pow 2 y)) (Nat.lt_of_le_of_lt (ck_an_le p.1 (Nat.land (ck_g J y) p.1)) h2)
            refine br_t (by decide) (pk_le b (p.2 + 1) (fun z2 => absurd z2 (by omega)) (fun _ => ⟨vp_in_nI hy8 (by decide), nm_r (e' := nI (Nat.land (ck_g J y) p.1)) ?_ (ck_ones (m := Nat.land (ck_g J y) p.1) (Nat.lt_trans (ck_la_lt J y p.1) (by decide)) rfl (ck_puw l1 m2 t1 ?_ ?_ (ck_puw l2 m1 t2 ?_ ?_ (nm_r (nI_1 k) ?_))))⟩) (hy := nI_1 p.2))
            · show a1 (nI y).toNatClampNeg &&& nI p.1 = _
              rw [ck_jat hj hy8, ck_and]
              rfl
            · show (nI p.1 &&& (nI _ ^^^ (-1))) &&& (((1 : Int32) <<< (nI y &&& 31)) ^^^ (-1)) = _
              rw [ck_andn, ck_andb _ (by omega)]
            · exact nI_add _ _
            · show nI p.1 &&& (((1 : Int32) <<< (nI y &&& 31)) ^^^ (-1)) = _
              rw [ck_andb _ (by omega)]
            · exact nI_1 _
            · exact ih (k + 1) b _ _ _ (by omega) hb (ck_st_pu l2 m1 t2 (ck_st_pu l1 m2 t1 h6)) h
          | succ w =>
            dsimp only at h
            have hw8 : w < 8 := by omega
            obtain ⟨l1, t1, h⟩ := ck_pu_inv h
            have m1 := Nat.lt_of_le_of_lt (ck_an_le p.1 (ck_g J w)) h2
            refine br_f (nI_pos (n := w) (by omega)) ⟨vp_in_nI hw8 (by decide), ck_puw l1 m1 t1 ?_ ?_ (nm_r (nI_1 k) ?_)⟩
            · show nI p.1 &&& (a1 (nI w).toNatClampNeg ^^^ (-1)) = _
              rw [ck_jat hj hw8, ck_andn]
            · exact nI_1 _
            · exact ih (k + 1) b _ _ _ (by omega) hb (ck_st_pu l1 m1 t1 h6) h
theorem ck_svw {post : Int32 → St2 → Prop} {s r : Nat} (hj : ck_jr J a1) (hs : s < 256) (e : ck_sv J s = some r) (H : ∀ f b2 b3, r < 128 → post (nI r) (f, a1, b2, b3, a4, a5, a6, a7, a8, a9, a10)) : wpX_solve post (f0, a1, a2, a3, a4, a5, a6, a7, a8, a9, a10) (nI s) := by
  unfold wpX_solve
  dsimp only
  refine ck_puw (n := 0) (l := s) (t := 0) (by omega) hs (by omega) rfl rfl ⟨512 + 1, ?_⟩
  exact ck_so16 hj H 512 0 100 [(s, 0)] (upd a2 0 (nI s)) (upd a3 0 (nI 0)) rfl (by omega) (ck_st_pu (st := []) (by decide) hs (by decide) trivial) e
theorem ck_lew {post : Int32 → St2 → Prop} {r : Nat} (hj : ck_jr J a1) (e : ck_sv J 255 = some r) (H : ∀ f b2 b3, r < 128 → post (nI r) (f, a1, b2, b3, a4, a5, a6, a7, a8, a9, a10)) : wpX_least post (f0, a1, a2, a3, a4, a5, a6, a7, a8, a9, a10) := by
  unfold wpX_least
  dsimp only
  exact ck_svw (s := 255) hj (by omega) e (fun f b2 b3 h => H f b2 b3 h)
/-! ===== allNeighbours, forced, always ===== -/
theorem ck_al4 {post : Int32 → Prop} {o : Nat} (hj : ck_jr J a1) (ho : o < 256) {r : Nat} (H : r < 256 → post (nI r)) :
    ∀ f v a, v + f = 8 → a < 256 → ck_al J o f v a = r → wX_allNeighbours_4 post (nI o) f0 a1 a2 a3 a4 a5 a6 a7 a8 a9 a10 (f + 1) (nI a) (nI v) := by
  intro f
  induction f with
  | zero =>
    intro v a hv ha e
    have e' : a = r := e
    subst e'
    exact br_t (nI_le (a := 8) (by omega) (by omega)) (H ha)
  | succ f ih =>
    intro v a hv ha e
    have hv8 : v < 8 := by omega
    simp only [ck_al] at e
    refine br_f (nI_ge (b := 8) hv8 (by decide)) (ck_inb (m := o) (w := v) (by omega) (by omega) rfl rfl (fun z => nm_r (ck_or0 a) (nm_r (nI_1 v) ?_)) (fun z => ⟨vp_in_nI hv8 (by decide), nm_r (e' := nI (Nat.lor a (ck_g J v))) ?_ (nm_r (nI_1 v) ?_)⟩))
    · rw [ck_beq_t z, cond_true] at e
      exact ih (v + 1) a (by omega) ha e
    · rw [ck_jat hj hv8]
      exact ck_or _ _
    · rw [ck_beq_f (by omega), cond_false] at e
      exact ih (v + 1) _ (by omega) (Nat.or_lt_two_pow (n := 8) ha (ck_g_lt J v)) e
theorem ck_fow {post : Int32 → St2 → Prop} {o c : Nat} (hj : ck_jr J a1) (ho : o < 256) (e : ck_fo J o = some c) (H : ∀ f b2 b3, c < 1000 → post (ck_d c) (f, a1, b2, b3, a4, a5, a6, a7, a8, a9, a10)) : wpX_forced post (f0, a1, a2, a3, a4, a5, a6, a7, a8, a9, a10) 0 (nI o) := by
  unfold wpX_forced
  dsimp only
  refine ⟨8 + 1, ck_al4 (r := ck_al J o 8 0 0) hj ho (fun hm => nm_r (ck_0or _) ?_) 8 0 0 rfl (by omega) rfl⟩
  unfold ck_fo at e
  generalize ck_al J o 8 0 0 = m at e hm
  have hmo : Nat.land m o ≤ o := Nat.and_le_right
  refine pk_eq (Nat.land m o) 0 (fun z => ?_) (fun z => ?_) (hx := ck_and m o) (ha := by omega)
  · rw [ck_beq_t z, cond_true] at e
    have e255 : ((255 : Int32) &&& (nI m ^^^ (-1))) &&& (nI o ^^^ (-1)) = nI (ck_an (ck_an 255 m) o) := by
      rw [show (255 : Int32) = nI 255 from rfl, ck_andn, ck_andn]
    have hb : ck_an (ck_an 255 m) o < 256 := Nat.lt_of_le_of_lt (ck_an_le _ _) (Nat.lt_of_le_of_lt (ck_an_le _ _) (by omega))
    refine ck_ones (m := m) (by omega) rfl ?_
    rw [e255]
    cases es : ck_sv J (ck_an (ck_an 255 m) o) with
    | none =>
      rw [es] at e
      exact absurd e (by simp)
    | some q =>
      rw [es] at e
      simp only [Option.some.injEq] at e
      refine ck_svw hj hb es (fun f b2 b3 hq => ?_)
      have ho8 := ck_on_le m 8
      have ec : c = ck_on m 8 + q + 1 := e.symm
      dsimp only
      have h := H f b2 b3 (by omega)
      rw [ec] at h
      rw [nI_add]
      exact h
  · rw [ck_beq_f z, cond_false] at e
    simp only [Option.some.injEq] at e
    subst e
    exact H f0 a2 a3 (by omega)
theorem ck_ay9 {post : Int32 → St2 → Prop} {g : Nat} (hg : g < 128) (hj : ck_jr J a1) {r : Nat} (H : ∀ f b2 b3, post (nI r) (f, a1, b2, b3, a4, a5, a6, a7, a8, a9, a10)) :
    ∀ (f v s : Nat) (f1 : Int32) (b2 b3 : Nat → Int32), v + f = 8 → ck_ay J g f v s = some r → wX_always_9 post (nI g) (f + 1) (nI s) (nI v) f1 a1 b2 b3 a4 a5 a6 a7 a8 a9 a10 := by
  intro f
  induction f with
  | zero =>
    intro v s f1 b2 b3 hv h
    simp only [ck_ay, Option.some.injEq] at h
    subst h
    exact br_t (nI_le (a := 8) (by omega) (by omega)) (H _ _ _)
  | succ f ih =>
    intro v s f1 b2 b3 hv h
    have hv8 : v < 8 := by omega
    simp only [ck_ay] at h
    cases hc : ck_fo J (Nat.pow 2 v) with
    | none =>
      rw [hc] at h
      exact absurd h (by simp)
    | some c =>
      rw [hc] at h
      dsimp only at h
      refine br_f (nI_ge (b := 8) hv8 (by decide)) ?_
      rw [ck_1sh v (by omega)]
      refine ck_fow (o := 2 ^ v) hj (ck_pw v hv8) hc (fun f2 c2 c3 hcb => ?_)
      dsimp only
      refine ek_if (ck_d_eq (by omega) (by omega)) (fun z => nm_r (ck_or0 s) (nm_r (nI_1 v) ?_)) (fun z => nm_r (ck_or s (2 ^ v)) (nm_r (nI_1 v) ?_))
      · rw [ck_beq_t (show c = Nat.add g 1 from z), cond_true] at h
        exact ih (v + 1) s _ _ _ (by omega) h
      · rw [ck_beq_f (show c ≠ Nat.add g 1 from z), cond_false] at h
        exact ih (v + 1) _ _ _ _ (by omega) h
theorem ck_alw {post : Int32 → St2 → Prop} {l r : Nat} (hj : ck_jr J a1) (el : ck_sv J 255 = some l) (e : ck_ay J l 8 0 0 = some r) (H : ∀ f b2 b3, post (nI r) (f, a1, b2, b3, a4, a5, a6, a7, a8, a9, a10)) : wpX_always post (f0, a1, a2, a3, a4, a5, a6, a7, a8, a9, a10) := by
  unfold wpX_always
  dsimp only
  refine ck_lew hj el (fun f b2 b3 hl => ⟨8 + 1, ?_⟩)
  exact ck_ay9 hl hj H 8 0 0 f b2 b3 rfl e
end
end
section
/-! ===== lists against arrays ===== -/
theorem ck_gs {l : List Nat} {w x : Nat} (h : w < l.length) : (l.set w x).getD w 0 = x := by
  simp [List.getD_eq_getElem?_getD, h]
theorem ck_gn {l : List Nat} {w j x : Nat} (h : j ≠ w) : (l.set w x).getD j 0 = l.getD j 0 := by
  simp [List.getD_eq_getElem?_getD, List.getElem?_set_ne (Ne.symm h)]
theorem ck_gl {l : List Nat} {j y : Nat} (h : j < l.length) : (l ++ [y]).getD j 0 = l.getD j 0 := by
  simp [List.getD_eq_getElem?_getD, List.getElem?_append_left h]
theorem ck_ge {l : List Nat} {y : Nat} : (l ++ [y]).getD l.length 0 = y := by
  simp [List.getD_eq_getElem?_getD]
theorem ck_z0 : ∀ w, w < 8 → ck_z.getD w 0 = 0 := by decide
def ck_pr (pa : List Nat) (a : Nat → Int32) : Prop := pa.length = 8 ∧ ∀ w, w < 8 → pa.getD w 0 ≤ 8 ∧ a w = ck_d (pa.getD w 0)
def ck_cr (ca : List Nat) (a : Nat → Int32) : Prop := ca.length = 8 ∧ ∀ w k, w < 8 → ca.getD w 0 = k + 1 → k < 8 ∧ a w = nI k
def ck_lr (ln : List Nat) (a : Nat → Int32) : Prop := ∀ j, j < ln.length → ln.getD j 0 < 8 ∧ a j = nI (ln.getD j 0)
theorem ck_pr_set {pa : List Nat} {a : Nat → Int32} {w u : Nat} (h : ck_pr pa a) (hw : w < 8) (hu : u < 8) : ck_pr (pa.set w (u + 1)) (upd a w (nI u)) := by
  refine ⟨by rw [List.length_set]; exact h.1, fun j hj => ?_⟩
  by_cases e : j = w
  · subst e
    rw [ck_gs (by rw [h.1]; exact hw), pk_us]
    exact ⟨by omega, rfl⟩
  · rw [ck_gn e, pk_un e]
    exact h.2 j hj
theorem ck_cr_set {ca : List Nat} {a : Nat → Int32} {w u : Nat} (h : ck_cr ca a) (hw : w < 8) (hu : u < 8) : ck_cr (ca.set w (u + 1)) (upd a w (nI u)) := by
  refine ⟨by rw [List.length_set]; exact h.1, fun j k hj hk => ?_⟩
  by_cases e : j = w
  · subst e
    rw [ck_gs (by rw [h.1]; exact hw)] at hk
    rw [pk_us]
    have hk2 : u = k := by omega
    subst hk2
    exact ⟨hu, rfl⟩
  · rw [ck_gn e] at hk
    rw [pk_un e]
    exact h.2 j k hj hk
theorem ck_lr_add {ln : List Nat} {a : Nat → Int32} {y : Nat} (h : ck_lr ln a) (hy : y < 8) : ck_lr (ln ++ [y]) (upd a ln.length (nI y)) := by
  intro j hj
  have hl : (ln ++ [y]).length = ln.length + 1 := by simp
  rw [hl] at hj
  by_cases e : j = ln.length
  · subst e
    rw [ck_ge, pk_us]
    exact ⟨hy, rfl⟩
  · rw [ck_gl (by omega), pk_un e]
    exact h j (by omega)
section
variable {f0 : Int32} {a1 a2 a3 a4 a5 a6 a7 a8 a9 a10 : Nat → Int32} {J : Nat}
/-! ===== placeOf, change ===== -/
theorem ck_po2 {post : Int32 → Prop} {pa : List Nat} {u : Nat} (hp : ck_pr pa a4) (hu : u < 8) {r : Nat} (H : r ≤ 8 → post (ck_d r)) :
    ∀ f w, w + f = 8 → ck_po pa u f w = r → wX_placeOf_2 post (nI u) f0 a1 a2 a3 a4 a5 a6 a7 a8 a9 a10 (f + 1) (nI w) := by
  intro f
  induction f with
  | zero =>
    intro w hw e
    have e' : 0 = r := e
    subst e'
    exact br_t (nI_le (a := 8) (by omega) (by omega)) (H (by omega))
  | succ f ih =>
    intro w hw e
    have hw8 : w < 8 := by omega
    have hb := (hp.2 w hw8).1
    simp only [ck_po] at e
    refine br_f (nI_ge (b := 8) hw8 (by decide)) ⟨vp_in_nI hw8 (by decide), ?_⟩
    rw [nI_clamp (by omega), (hp.2 w hw8).2]
    refine ek_if (ck_d_eq (by omega) (by omega)) (fun z => ?_) (fun z => nm_r (nI_1 w) ?_)
    · rw [ck_beq_t (show pa.getD w 0 = Nat.add u 1 from z), cond_true] at e
      subst e
      exact H hw8
    · rw [ck_beq_f (show pa.getD w 0 ≠ Nat.add u 1 from z), cond_false] at e
      exact ih (w + 1) (by omega) e
theorem ck_ch5 {post : St2 → Prop} {s : Nat} {ca : List Nat} (hs : s < 8) (hc : ck_cr ca a5) {q : List Nat} (H : ∀ b4, ck_pr q b4 → post (f0, a1, a2, a3, b4, a5, a6, a7, a8, a9, a10)) :
    ∀ (f k w : Nat) (pa : List Nat) (b4 : Nat → Int32), k + f = 8 → w ≤ 8 → ck_pr pa b4 → ck_ch s ca f w pa = some q → wX_change_5 post (nI s) f0 (f + 1) (ck_d w) (nI k) a1 a2 a3 b4 a5 a6 a7 a8 a9 a10 := by
  intro f
  induction f with
  | zero =>
    intro k w pa b4 hk hw hp h
    simp only [ck_ch, Option.some.injEq] at h
    subst h
    exact br_t (nI_le (a := 8) (by omega) (by omega)) (H _ hp)
  | succ f ih =>
    intro k w pa b4 hk hw hp h
    cases w with
    | zero =>
      simp only [ck_ch, Option.some.injEq] at h
      subst h
      exact br_f (nI_ge (b := 8) (by omega) (by decide)) (br_t (by decide) (H _ hp))
    | succ w =>
      have hw8 : w < 8 := by omega
      simp only [ck_ch] at h
      cases hcw : ca.getD w 0 with
      | zero =>
        rw [hcw] at h
        exact absurd h (by simp)
      | succ u =>
        rw [hcw] at h
        dsimp only at h
        obtain ⟨hu, e5⟩ := hc.2 w u hw8 hcw
        have K : ∀ z0, z0 ≤ 8 → ck_ch s ca f z0 (pa.set w (u + 1)) = some q → wX_change_40 post (wX_change_5 post (nI s) f0 (f + 1)) (nI s) (nI w) (nI k) (nI u) (ck_d z0) f0 a1 a2 a3 b4 a5 a6 a7 a8 a9 a10 :=
          fun z0 hz e => ⟨vp_in_nI hw8 (by decide), nm_r (e' := upd b4 w (nI u)) (by rw [nI_clamp (by omega), ck_i8 u (by omega)]) (nm_r (nI_1 k) (ih (k + 1) z0 _ _ (by omega) hz (ck_pr_set hp hw8 hu) e))⟩
        refine br_f (nI_ge (b := 8) (by omega) (by decide)) (br_f (nI_pos (n := w) (by omega)) ⟨vp_in_nI hw8 (by decide), nm_r (e' := nI u) ?_ (pk_eq u s (fun z => ?_) (fun z => ⟨8 + 1, ck_po2 (r := ck_po pa u 8 0) hp hu (fun hr => ?_) 8 0 rfl rfl⟩))⟩)
        · show a5 (nI w).toNatClampNeg = _
          rw [nI_clamp (by omega)]
          exact e5
        · rw [ck_beq_t z, cond_true] at h
          exact K 0 (by omega) h
        · rw [ck_beq_f z, cond_false] at h
          exact K _ hr h
/-! ===== augment ===== -/
theorem ck_a42w {post : Int32 → St2 → Prop} {J16 : Int32 → Int32 → Int32 → (Nat → Int32) → (Nat → Int32) → (Nat → Int32) → (Nat → Int32) → (Nat → Int32) → (Nat → Int32) → (Nat → Int32) → (Nat → Int32) → (Nat → Int32) → (Nat → Int32) → Prop} {r v u k : Nat} {pa : List Nat} (hj : ck_jr J a1) (hv : v < 8) (hu : u < 8) (hp : ck_pr pa a4) {K : Nat → List Nat → List Nat → Option (Option (List Nat))} {o : Option (List Nat)}
    (H1 : ∀ q b4 b5 b6, o = some q → ck_pr q b4 → post 1 (f0, a1, a2, a3, b4, b5, b6, a7, a8, a9, a10))
    (HK : ∀ s ln ca b5 b6, ck_cr ca b5 → ck_lr ln b6 → ln.length ≤ 10 → K s ln ca = some o → J16 (nI s) (nI ln.length) (nI (k + 1)) a1 a2 a3 a4 b5 b6 a7 a8 a9 a10) :
    ∀ (f w s : Nat) (ln ca : List Nat) (b5 b6 : Nat → Int32), w + f = 8 → ck_cr ca b5 → ck_lr ln b6 → ln.length ≤ 10 → ck_a42 J r v u pa K f w s ln ca = some o → wX_augment_42 post J16 (nI v) (nI r) (nI k) (nI u) f0 (f + 1) (nI s) (nI ln.length) (nI w) a1 a2 a3 a4 b5 b6 a7 a8 a9 a10 := by
  intro f
  induction f with
  | zero =>
    intro w s ln ca b5 b6 hw hc hl hn h
    exact br_t (nI_le (a := 8) (by omega) (by omega)) (nm_r (nI_1 k) (HK s ln ca b5 b6 hc hl hn h))
  | succ f ih =>
    intro w s ln ca b5 b6 hw hc hl hn h
    have hw8 : w < 8 := by omega
    simp only [ck_a42] at h
    have hm : (a1 (nI u).toNatClampNeg &&& nI r) &&& (nI s ^^^ (-1)) = nI (ck_an (Nat.land (ck_g J u) r) s) := by
      rw [ck_jat hj hu, ck_and, ck_andn]
      rfl
    have hb : ck_an (Nat.land (ck_g J u) r) s < 2 ^ 31 := Nat.lt_of_le_of_lt (ck_an_le _ _) (Nat.lt_trans (ck_la_lt J u r) (by decide))
    refine br_f (nI_ge (b := 8) hw8 (by decide)) ⟨vp_in_nI hu (by decide), ck_inb hb (by omega) hm rfl (fun z => nm_r (nI_1 w) ?_) (fun z => nm_r (ck_orb s (by omega)) ⟨vp_in_nI hw8 (by decide), nm_r (e' := upd b5 w (nI u)) (by rw [nI_clamp (by omega), ck_i8 u (by omega)]) ⟨vp_in_nI hw8 (by decide), ?_⟩⟩)⟩
    · rw [ck_beq_t z, cond_true] at h
      exact ih (w + 1) s ln ca b5 b6 (by omega) hc hl hn h
    · rw [ck_beq_f (by omega), cond_false] at h
      have hc2 := ck_cr_set hc hw8 hu
      have hpw := hp.2 w hw8
      rw [nI_clamp (show w < 2 ^ 31 by omega), hpw.2]
      cases hy : pa.getD w 0 with
      | zero =>
        rw [hy] at h
        dsimp only at h
        cases hq : ck_ch v (ca.set w (u + 1)) 8 (w + 1) pa with
        | none =>
          rw [hq] at h
          exact absurd h (by simp)
        | some q =>
          rw [hq] at h
          simp only [Option.some.injEq] at h
          exact br_f (by decide) ⟨8 + 1, ck_ch5 hv hc2 (fun b4 hb4 => H1 q b4 _ _ h.symm hb4) 8 0 (w + 1) pa a4 rfl (by omega) hp hq⟩
      | succ y =>
        rw [hy] at h hpw
        dsimp only at h
        have hy8 : y < 8 := by omega
        cases hlt : Nat.blt ln.length 10 with
        | false =>
          rw [hlt, cond_false] at h
          exact absurd h (by simp)
        | true =>
          rw [hlt, cond_true] at h
          have hn10 := ck_blt_lt hlt
          have hl2 : (ln ++ [y]).length = ln.length + 1 := by simp
          have t := ih (w + 1) _ (ln ++ [y]) _ _ _ (by omega) hc2 (ck_lr_add hl hy8) (by omega) h
          rw [hl2] at t
          exact br_t (nI_pos' (n := y) (by omega)) ⟨vp_in_nI hw8 (by decide), vp_in_nI hn10 (by decide), nm_r (e' := upd b6 ln.length (nI y)) (by rw [nI_clamp (by omega), show ck_d (y + 1) = nI y from rfl, ck_vb (by omega)]) (nm_r (nI_1 _) (nm_r (nI_1 w) t))⟩
theorem ck_a16w {post : Int32 → St2 → Prop} {r v : Nat} {pa : List Nat} (hj : ck_jr J a1) (hv : v < 8) (hp : ck_pr pa a4) {o : Option (List Nat)}
    (H0 : ∀ b5 b6, o = none → post 0 (f0, a1, a2, a3, a4, b5, b6, a7, a8, a9, a10))
    (H1 : ∀ q b4 b5 b6, o = some q → ck_pr q b4 → post 1 (f0, a1, a2, a3, b4, b5, b6, a7, a8, a9, a10)) :
    ∀ (f k s : Nat) (ln ca : List Nat) (b5 b6 : Nat → Int32), k + f = 9 → ck_cr ca b5 → ck_lr ln b6 → ln.length ≤ 10 → ck_a16 J r v pa f k s ln ca = some o → wX_augment_16 post (nI v) (nI r) f0 (f + 1) (nI s) (nI ln.length) (nI k) a1 a2 a3 a4 b5 b6 a7 a8 a9 a10 := by
  intro f
  induction f with
  | zero =>
    intro k s ln ca b5 b6 hk hc hl hn h
    simp only [ck_a16, Option.some.injEq] at h
    exact pk_le ln.length k (fun _ => H0 b5 b6 h.symm) (fun _ => br_t (nI_lt (a := 8) (by omega) (by omega)) (H0 b5 b6 h.symm))
  | succ f ih =>
    intro k s ln ca b5 b6 hk hc hl hn h
    simp only [ck_a16] at h
    refine pk_le ln.length k (fun z => ?_) (fun z => br_f (nI_nlt (a := 8) (by omega) (by omega)) ⟨vp_in_nI (show k < 10 by omega) (by decide), nm_r (e' := nI (ln.getD k 0)) ?_ ⟨8 + 1, ?_⟩⟩)
    · rw [ck_ble_t z, cond_true] at h
      simp only [Option.some.injEq] at h
      exact H0 b5 b6 h.symm
    · rw [nI_clamp (by omega)]
      exact (hl k z).2
    · rw [ck_ble_f z, cond_false] at h
      exact ck_a42w hj hv (hl k z).1 hp H1 (fun s1 ln1 ca1 c5 c6 hc1 hl1 hn1 h1 => ih (k + 1) s1 ln1 ca1 c5 c6 (by omega) hc1 hl1 hn1 h1) 8 0 s ln ca b5 b6 rfl hc hl hn h
theorem ck_auw {post : Int32 → St2 → Prop} {r v : Nat} {pa : List Nat} (hj : ck_jr J a1) (hv : v < 8) (hp : ck_pr pa a4) {o : Option (List Nat)} (e : ck_a16 J r v pa 9 0 0 [v] ck_z = some o)
    (H0 : ∀ b5 b6, o = none → post 0 (f0, a1, a2, a3, a4, b5, b6, a7, a8, a9, a10))
    (H1 : ∀ q b4 b5 b6, o = some q → ck_pr q b4 → post 1 (f0, a1, a2, a3, b4, b5, b6, a7, a8, a9, a10)) : wpX_augment post (f0, a1, a2, a3, a4, a5, a6, a7, a8, a9, a10) (nI v) (nI r) := by
  unfold wpX_augment
  dsimp only
  refine nm_r (e' := upd a6 0 (nI v)) (by rw [ck_i8 v (by omega)]) ⟨9 + 1, ?_⟩
  refine ck_a16w hj hv hp H0 H1 9 0 0 [v] ck_z a5 (upd a6 0 (nI v)) rfl ⟨rfl, fun w k hw hk => ?_⟩ (ck_lr_add (ln := []) (fun j hj => absurd hj (by simp)) hv) (by simp) e
  rw [ck_z0 w hw] at hk
  exact absurd hk (by omega)
/-! ===== match ===== -/
theorem ck_m26w {post : Int32 → St2 → Prop} {l r : Nat} (hj : ck_jr J a1) (hl : l < 256) {n : Nat} (H : ∀ b4 b5 b6, n ≤ 8 → post (nI n) (f0, a1, a2, a3, b4, b5, b6, a7, a8, a9, a10)) :
    ∀ (f v m : Nat) (pa : List Nat) (b4 b5 b6 : Nat → Int32), v + f = 8 → m ≤ v → ck_pr pa b4 → ck_m26 J l r f v m pa = some n → wX_match_26 post (nI l) (nI r) (f + 1) (nI m) (nI v) f0 a1 a2 a3 b4 b5 b6 a7 a8 a9 a10 := by
  intro f
  induction f with
  | zero =>
    intro v m pa b4 b5 b6 hv hm hp h
    simp only [ck_m26, Option.some.injEq] at h
    subst h
    exact br_t (nI_le (a := 8) (by omega) (by omega)) (H _ _ _ (by omega))
  | succ f ih =>
    intro v m pa b4 b5 b6 hv hm hp h
    have hv8 : v < 8 := by omega
    simp only [ck_m26] at h
    refine br_f (nI_ge (b := 8) hv8 (by decide)) (ck_inb (m := l) (w := v) (by omega) (by omega) rfl rfl (fun z => nm_r (e' := nI m) (nI_add m 0) (nm_r (nI_1 v) ?_)) (fun z => ?_))
    · rw [ck_beq_t z, cond_true] at h
      exact ih (v + 1) m pa b4 b5 b6 (by omega) (by omega) hp h
    · rw [ck_beq_f (by omega), cond_false] at h
      cases ho : ck_a16 J r v pa 9 0 0 [v] ck_z with
      | none =>
        rw [ho] at h
        exact absurd h (by simp)
      | some o =>
        rw [ho] at h
        refine ck_auw hj hv8 hp ho (fun c5 c6 e => ?_) (fun q c4 c5 c6 e hq => ?_)
        · subst e
          dsimp only at h ⊢
          exact br_t rfl (nm_r (e' := nI m) (nI_add m 0) (nm_r (nI_1 v) (ih (v + 1) m pa b4 c5 c6 (by omega) (by omega) hp h)))
        · subst e
          dsimp only at h ⊢
          exact br_f (by decide) (nm_r (nI_1 m) (nm_r (nI_1 v) (ih (v + 1) (m + 1) q c4 c5 c6 (by omega) (by omega) hq h)))
theorem ck_maw {post : Int32 → St2 → Prop} {l r n : Nat} (hj : ck_jr J a1) (hl : l < 256) (e : ck_ma J l r = some n) (H : ∀ b4 b5 b6, n ≤ 8 → post (nI n) (f0, a1, a2, a3, b4, b5, b6, a7, a8, a9, a10)) : wpX_match post (f0, a1, a2, a3, a4, a5, a6, a7, a8, a9, a10) (nI l) (nI r) :=
  pk_loop (fun n i s => wX_match_2 post (nI l) (nI r) f0 n (nI i) a1 a2 a3 s a5 a6 a7 a8 a9 a10) (fun i s => ∀ j, j < i → s j = -1) 8 0 a4 (by omega) (fun j hj => absurd hj (by omega))
    (fun n s h => pk_le 8 8 (fun _ => ⟨8 + 1, ck_m26w hj hl H 8 0 0 ck_z s a5 a6 rfl (by omega) ⟨rfl, fun w hw => by rw [ck_z0 w hw]; exact ⟨by omega, h w hw⟩⟩ e⟩) (fun z => absurd z (by omega)))
    (fun n i s hi h hw => pk_le 8 i (fun z => absurd z (by omega)) (fun _ => ⟨vp_in_nI hi (by decide), nm_r (e' := upd s i (-1)) (by rw [nI_clamp (by omega)]) (nm_r (nI_1 i) (hw _ (fun j hj => by
      by_cases q : j = i
      · rw [q, pk_us]
      · rw [pk_un q]
        exact h j (by omega))))⟩))
theorem ck_haw {post : Int32 → St2 → Prop} {n : Nat} (hj : ck_jr J a1) (e : ck_ma J 255 255 = some n) (H : ∀ b4 b5 b6, n ≤ 8 → post (nI n) (f0, a1, a2, a3, b4, b5, b6, a7, a8, a9, a10)) : wpX_halves post (f0, a1, a2, a3, a4, a5, a6, a7, a8, a9, a10) := by
  unfold wpX_halves
  dsimp only
  exact ck_maw (l := 255) (r := 255) hj (by omega) e (fun b4 b5 b6 h => H b4 b5 b6 h)
/-! ===== costWith, canHave ===== -/
theorem ck_ow_lt (v : Nat) : ck_ow v < 256 := Nat.lt_of_le_of_lt (ck_an_le 255 _) (by omega)
theorem ck_fa_lt (J v : Nat) : ck_fa J v < 256 := Nat.lt_of_le_of_lt (ck_an_le _ _) (ck_ow_lt v)
theorem ck_cow {post : Int32 → St2 → Prop} {v n c : Nat} (hj : ck_jr J a1) (hv : v < 8) (hn : n ≤ 2) (e : ck_co J v n = some c) (H : ∀ b4 b5 b6, c ≤ 40 → post (nI c) (f0, a1, a2, a3, b4, b5, b6, a7, a8, a9, a10)) : wpX_costWith post (f0, a1, a2, a3, a4, a5, a6, a7, a8, a9, a10) (nI v) (nI n) := by
  unfold wpX_costWith
  dsimp only
  have e1 : (255 : Int32) &&& (((1 : Int32) <<< (nI v &&& 31)) ^^^ (-1)) = nI (ck_ow v) := by
    rw [show (255 : Int32) = nI 255 from rfl]
    exact ck_andb 255 (by omega)
  have e2 : nI (ck_ow v) &&& (a1 (nI v).toNatClampNeg ^^^ (-1)) = nI (ck_fa J v) := by
    rw [ck_jat hj hv, ck_andn]
    rfl
  have ho := ck_on_le (ck_g J v) 8
  refine nm_r e1 ⟨vp_in_nI hv (by decide), nm_r e2 ⟨vp_in_nI hv (by decide), ck_ones (m := ck_g J v) (Nat.lt_trans (ck_g_lt J v) (by decide)) (ck_jat hj hv) ?_⟩⟩
  match n, hn with
  | 0, _ =>
    simp only [ck_co] at e
    cases em : ck_ma J (ck_fa J v) (ck_fa J v) with
    | none =>
      rw [em] at e
      exact absurd e (by simp)
    | some m =>
      rw [em] at e
      simp only [Option.some.injEq] at e
      have ec : c = 2 * ck_on (ck_g J v) 8 + m := e.symm
      refine br_f (by decide) (br_f (by decide) (ck_maw hj (ck_fa_lt J v) em (fun b4 b5 b6 hm => ?_)))
      dsimp only
      have h := H b4 b5 b6 (by omega)
      have eq : (2 : Int32) * nI (ck_on (ck_g J v) 8) + nI m = nI c := by
        rw [show (2 : Int32) = nI 2 from rfl, pk_mul, nI_add, ec]
      rw [eq]
      exact h
  | 1, _ =>
    simp only [ck_co] at e
    cases em : ck_ma J (ck_fa J v) (ck_ow v) with
    | none =>
      rw [em] at e
      exact absurd e (by simp)
    | some m =>
      rw [em] at e
      simp only [Option.some.injEq] at e
      have ec : c = 1 + ck_on (ck_g J v) 8 + m := e.symm
      refine br_f (by decide) (br_t (by decide) (ck_maw hj (ck_fa_lt J v) em (fun b4 b5 b6 hm => ?_)))
      dsimp only
      have h := H b4 b5 b6 (by omega)
      have eq : (1 : Int32) + nI (ck_on (ck_g J v) 8) + nI m = nI c := by
        rw [show (1 : Int32) = nI 1 from rfl, nI_add, nI_add, ec]
      rw [eq]
      exact h
  | 2, _ =>
    simp only [ck_co] at e
    cases em : ck_ma J (ck_ow v) (ck_ow v) with
    | none =>
      rw [em] at e
      exact absurd e (by simp)
    | some m =>
      rw [em] at e
      simp only [Option.some.injEq] at e
      have ec : c = 2 + m := e.symm
      refine br_t (by decide) (ck_maw hj (ck_ow_lt v) em (fun b4 b5 b6 hm => ?_))
      dsimp only
      have h := H b4 b5 b6 (by omega)
      have eq : (2 : Int32) + nI m = nI c := by
        rw [show (2 : Int32) = nI 2 from rfl, nI_add, ec]
      rw [eq]
      exact h
theorem ck_caw {post : Int32 → St2 → Prop} {v n c h : Nat} (hj : ck_jr J a1) (hv : v < 8) (hn : n ≤ 2) (eh : ck_ma J 255 255 = some h) (e : ck_co J v n = some c)
    (H1 : c = h → ∀ b4 b5 b6, post 1 (f0, a1, a2, a3, b4, b5, b6, a7, a8, a9, a10)) (H0 : c ≠ h → ∀ b4 b5 b6, post 0 (f0, a1, a2, a3, b4, b5, b6, a7, a8, a9, a10)) : wpX_canHave post (f0, a1, a2, a3, a4, a5, a6, a7, a8, a9, a10) (nI v) (nI n) := by
  unfold wpX_canHave
  dsimp only
  refine ck_iv hv (br_f (by decide) (br_f (nI_pos (by omega)) (br_t (nI_le (b := 2) hn (by omega)) ?_)))
  refine ck_haw hj eh (fun b4 b5 b6 hh => ?_)
  dsimp only
  refine ck_cow hj hv hn e (fun c4 c5 c6 hc => ?_)
  dsimp only
  exact pk_eq c h (fun z => H1 z c4 c5 c6) (fun z => H0 z c4 c5 c6)
/-! ===== whole, bare ===== -/
theorem ck_who4 {post : Int32 → St2 → Prop} {h r : Nat} (hj : ck_jr J a1) (eh : ck_ma J 255 255 = some h) (H : ∀ b4 b5 b6, post (nI r) (f0, a1, a2, a3, b4, b5, b6, a7, a8, a9, a10)) :
    ∀ (f v s : Nat) (b4 b5 b6 : Nat → Int32), v + f = 8 → ck_wh J h 0 1 f v s = some r → wX_whole_4 post (f + 1) (nI s) (nI v) f0 a1 a2 a3 b4 b5 b6 a7 a8 a9 a10 := by
  intro f
  induction f with
  | zero =>
    intro v s b4 b5 b6 hv hh
    simp only [ck_wh, Option.some.injEq] at hh
    subst hh
    exact br_t (nI_le (a := 8) (by omega) (by omega)) (H _ _ _)
  | succ f ih =>
    intro v s b4 b5 b6 hv hh
    have hv8 : v < 8 := by omega
    simp only [ck_wh] at hh
    cases e1 : ck_co J v 0 with
    | none =>
      rw [e1] at hh
      exact absurd hh (by simp)
    | some c =>
      rw [e1] at hh
      dsimp only at hh
      refine br_f (nI_ge (b := 8) hv8 (by decide)) (ck_caw (n := 0) hj hv8 (by omega) eh e1 (fun z c4 c5 c6 => ?_) (fun z c4 c5 c6 => ?_))
      · rw [ck_beq_t z, cond_true] at hh
        dsimp only
        exact br_f (by decide) (nm_r (ck_or0 s) (nm_r (nI_1 v) (ih (v + 1) s c4 c5 c6 (by omega) hh)))
      · rw [ck_beq_f z, cond_false] at hh
        dsimp only
        cases e2 : ck_co J v 1 with
        | none =>
          rw [e2] at hh
          exact absurd hh (by simp)
        | some d =>
          rw [e2] at hh
          dsimp only at hh
          refine br_t rfl (ck_caw (n := 1) hj hv8 (by omega) eh e2 (fun z2 d4 d5 d6 => ?_) (fun z2 d4 d5 d6 => ?_))
          · rw [ck_beq_t z2, cond_true] at hh
            dsimp only
            exact br_f (by decide) (nm_r (ck_or0 s) (nm_r (nI_1 v) (ih (v + 1) s d4 d5 d6 (by omega) hh)))
          · rw [ck_beq_f z2, cond_false] at hh
            dsimp only
            exact br_t rfl (nm_r (ck_orb s (by omega)) (nm_r (nI_1 v) (ih (v + 1) _ d4 d5 d6 (by omega) hh)))
theorem ck_whow {post : Int32 → St2 → Prop} {h r : Nat} (hj : ck_jr J a1) (eh : ck_ma J 255 255 = some h) (e : ck_wh J h 0 1 8 0 0 = some r) (H : ∀ b4 b5 b6, post (nI r) (f0, a1, a2, a3, b4, b5, b6, a7, a8, a9, a10)) : wpX_whole post (f0, a1, a2, a3, a4, a5, a6, a7, a8, a9, a10) :=
  ⟨8 + 1, ck_who4 hj eh H 8 0 0 a4 a5 a6 rfl e⟩
theorem ck_bar4 {post : Int32 → St2 → Prop} {h r : Nat} (hj : ck_jr J a1) (eh : ck_ma J 255 255 = some h) (H : ∀ b4 b5 b6, post (nI r) (f0, a1, a2, a3, b4, b5, b6, a7, a8, a9, a10)) :
    ∀ (f v s : Nat) (b4 b5 b6 : Nat → Int32), v + f = 8 → ck_wh J h 1 2 f v s = some r → wX_bare_4 post (f + 1) (nI s) (nI v) f0 a1 a2 a3 b4 b5 b6 a7 a8 a9 a10 := by
  intro f
  induction f with
  | zero =>
    intro v s b4 b5 b6 hv hh
    simp only [ck_wh, Option.some.injEq] at hh
    subst hh
    exact br_t (nI_le (a := 8) (by omega) (by omega)) (H _ _ _)
  | succ f ih =>
    intro v s b4 b5 b6 hv hh
    have hv8 : v < 8 := by omega
    simp only [ck_wh] at hh
    cases e1 : ck_co J v 1 with
    | none =>
      rw [e1] at hh
      exact absurd hh (by simp)
    | some c =>
      rw [e1] at hh
      dsimp only at hh
      refine br_f (nI_ge (b := 8) hv8 (by decide)) (ck_caw (n := 1) hj hv8 (by omega) eh e1 (fun z c4 c5 c6 => ?_) (fun z c4 c5 c6 => ?_))
      · rw [ck_beq_t z, cond_true] at hh
        dsimp only
        exact br_f (by decide) (nm_r (ck_or0 s) (nm_r (nI_1 v) (ih (v + 1) s c4 c5 c6 (by omega) hh)))
      · rw [ck_beq_f z, cond_false] at hh
        dsimp only
        cases e2 : ck_co J v 2 with
        | none =>
          rw [e2] at hh
          exact absurd hh (by simp)
        | some d =>
          rw [e2] at hh
          dsimp only at hh
          refine br_t rfl (ck_caw (n := 2) hj hv8 (by omega) eh e2 (fun z2 d4 d5 d6 => ?_) (fun z2 d4 d5 d6 => ?_))
          · rw [ck_beq_t z2, cond_true] at hh
            dsimp only
            exact br_f (by decide) (nm_r (ck_or0 s) (nm_r (nI_1 v) (ih (v + 1) s d4 d5 d6 (by omega) hh)))
          · rw [ck_beq_f z2, cond_false] at hh
            dsimp only
            exact br_t rfl (nm_r (ck_orb s (by omega)) (nm_r (nI_1 v) (ih (v + 1) _ d4 d5 d6 (by omega) hh)))
theorem ck_barw {post : Int32 → St2 → Prop} {h r : Nat} (hj : ck_jr J a1) (eh : ck_ma J 255 255 = some h) (e : ck_wh J h 1 2 8 0 0 = some r) (H : ∀ b4 b5 b6, post (nI r) (f0, a1, a2, a3, b4, b5, b6, a7, a8, a9, a10)) : wpX_bare post (f0, a1, a2, a3, a4, a5, a6, a7, a8, a9, a10) :=
  ⟨8 + 1, ck_bar4 hj eh H 8 0 0 a4 a5 a6 rfl e⟩
end
end
section
/-! ===== the table of pairs: base 16 ===== -/
theorem ck_tg_eq (T j : Nat) : ck_tg T j = T / 16 ^ j % 16 := by
  show (T >>> (4 * j)) % 16 = _
  rw [Nat.shiftRight_eq_div_pow, Nat.pow_mul]
theorem ck_tg_lo {T m s j : Nat} (h : j < s) : ck_tg (Nat.add T (Nat.mul m (Nat.pow 16 s))) j = ck_tg T j := by
  rw [ck_tg_eq, ck_tg_eq]
  obtain ⟨d, rfl⟩ : ∃ d, s = j + 1 + d := ⟨s - j - 1, by omega⟩
  show (T + m * 16 ^ (j + 1 + d)) / 16 ^ j % 16 = T / 16 ^ j % 16
  have e : m * 16 ^ (j + 1 + d) = 16 ^ j * (16 * (m * 16 ^ d)) := by
    rw [Nat.pow_add, Nat.pow_succ]
    ac_rfl
  rw [e, Nat.add_mul_div_left _ _ (Nat.pow_pos (by decide)), Nat.add_mul_mod_self_left]
theorem ck_tg_at {T m s : Nat} (hT : T < 16 ^ s) (hm : m < 16) : ck_tg (Nat.add T (Nat.mul m (Nat.pow 16 s))) s = m := by
  rw [ck_tg_eq]
  show (T + m * 16 ^ s) / 16 ^ s % 16 = m
  rw [Nat.mul_comm m, Nat.add_mul_div_left _ _ (Nat.pow_pos (by decide)), Nat.div_eq_of_lt hT, Nat.zero_add, Nat.mod_eq_of_lt hm]
theorem ck_T_lt {T m s : Nat} (hT : T < 16 ^ s) (hm : m < 16) : Nat.add T (Nat.mul m (Nat.pow 16 s)) < 16 ^ (s + 1) := by
  show T + m * 16 ^ s < 16 ^ (s + 1)
  rw [Nat.pow_succ]
  have h : m * 16 ^ s ≤ 15 * 16 ^ s := Nat.mul_le_mul_right _ (by omega)
  omega
def ck_tr (s T : Nat) (a : Nat → Int32) : Prop := T < 16 ^ s ∧ ∀ j, j < s → a j = nI (ck_tg T j)
theorem ck_tr_add {s T m : Nat} {a : Nat → Int32} (h : ck_tr s T a) (hm : m < 16) : ck_tr (s + 1) (Nat.add T (Nat.mul m (Nat.pow 16 s))) (upd a s (nI m)) := by
  refine ⟨ck_T_lt h.1 hm, fun j hj => ?_⟩
  by_cases e : j = s
  · subst e
    rw [ck_tg_at h.1 hm, pk_us]
  · rw [ck_tg_lo (by omega), pk_un e]
    exact h.2 j (by omega)
section
variable {f0 : Int32} {a1 a2 a3 a4 a5 a6 a7 a8 a9 a10 : Nat → Int32} {J : Nat}
/-! ===== matching ===== -/
theorem ck_mi53 {post : Int32 → St2 → Prop} {J9 : Int32 → (Nat → Int32) → (Nat → Int32) → (Nat → Int32) → (Nat → Int32) → (Nat → Int32) → (Nat → Int32) → (Nat → Int32) → (Nat → Int32) → (Nat → Int32) → (Nat → Int32) → Prop} {s v x T m : Nat} (hj : ck_jr J a1) (hs : s < 256) (hv : v < 8) (hx : x < s) (ht : ∀ j, j < s → a7 j = nI (ck_tg T j)) (hm : m < 16)
    (H : J9 (nI (s + 1)) a1 a2 a3 a4 a5 a6 (upd a7 s (nI m)) a8 a9 a10) :
    ∀ f w k, w + f = 8 → k ≤ 16 → ck_mi J T v x f w k = m → wX_matching_53 post J9 (nI s) (nI v) (nI x) f0 a1 a2 a3 a4 a5 a6 a7 a8 a9 a10 (f + 1) (nI k) (nI w) := by
  intro f
  induction f with
  | zero =>
    intro w k hw hk e
    have e' : k = m := e
    subst e'
    exact br_t (nI_le (a := 8) (by omega) (by omega)) ⟨vp_in_nI hs (by decide), nm_r (e' := upd a7 s (nI k)) (by rw [nI_clamp (by omega), ck_i8 k (by omega)]) (nm_r (nI_1 s) H)⟩
  | succ f ih =>
    intro w k hw hk e
    have hw8 : w < 8 := by omega
    simp only [ck_mi] at e
    have hb : Nat.land x (ck_g J v) < 2 ^ 31 := Nat.lt_of_le_of_lt Nat.and_le_left (by omega)
    have hi : ck_an x (Nat.pow 2 w) < s := Nat.lt_of_le_of_lt (ck_an_le _ _) hx
    refine br_f (nI_ge (b := 8) hw8 (by decide)) ⟨vp_in_nI hv (by decide), ck_inb hb (by omega) (by rw [ck_jat hj hv, ck_and]; rfl) rfl (fun z => nm_r (nI_1 w) ?_) (fun z => ?_)⟩
    · rw [ck_beq_t z, cond_true] at e
      exact ih (w + 1) k (by omega) hk e
    · rw [ck_beq_f (by omega), cond_false] at e
      rw [ck_andb x (show w < 31 by omega)]
      have hg := ck_tg_lt T (ck_an x (Nat.pow 2 w))
      have ha := ht _ hi
      generalize ck_tg T (ck_an x (Nat.pow 2 w)) = g at e hg ha
      refine ⟨vp_in_nI (by omega) (by decide), nm_r (e' := nI (1 + g)) ?_ (pk_le (1 + g) k (fun q => nm_r (nI_1 w) ?_) (fun q => nm_r (nI_1 w) ?_))⟩
      · rw [nI_clamp (by omega), ha]
        exact nI_add 1 g
      · rw [ck_ble_t (show Nat.add 1 g ≤ k from q), cond_true] at e
        exact ih (w + 1) k (by omega) hk e
      · rw [ck_ble_f (show k < Nat.add 1 g from q), cond_false] at e
        exact ih (w + 1) (1 + g) (by omega) (by omega) e
theorem ck_lo18 {post : Int32 → St2 → Prop} {J9 : Int32 → (Nat → Int32) → (Nat → Int32) → (Nat → Int32) → (Nat → Int32) → (Nat → Int32) → (Nat → Int32) → (Nat → Int32) → (Nat → Int32) → (Nat → Int32) → (Nat → Int32) → Prop} {s v T : Nat} (hs : s < 256) (hx : ck_an s (Nat.pow 2 v) < s) (ht : ∀ j, j < s → a7 j = nI (ck_tg T j))
    (H : v < 8 → ∃ fu, wX_matching_53 post J9 (nI s) (nI v) (nI (ck_an s (Nat.pow 2 v))) f0 a1 a2 a3 a4 a5 a6 a7 a8 a9 a10 fu (nI (ck_tg T (ck_an s (Nat.pow 2 v)))) (nI (v + 1))) :
    ∀ f w, w + f = 8 → ck_lo s f w = v + 1 → wX_matching_18 post J9 (nI s) f0 a1 a2 a3 a4 a5 a6 a7 a8 a9 a10 (f + 1) (nI w) := by
  intro f
  induction f with
  | zero =>
    intro w hw e
    have e' : 0 = v + 1 := e
    exact absurd e' (by omega)
  | succ f ih =>
    intro w hw e
    have hw8 : w < 8 := by omega
    simp only [ck_lo] at e
    refine ck_inb (m := s) (w := w) (by omega) (by omega) rfl rfl (fun z => nm_r (nI_1 w) ?_) (fun z => ?_)
    · rw [ck_beq_t z, cond_true] at e
      exact ih (w + 1) (by omega) e
    · rw [ck_beq_f (by omega), cond_false] at e
      have e' : w = v := Nat.succ.inj e
      subst e'
      refine nm_r (ck_andb s (by omega)) ⟨vp_in_nI (by omega) (by decide), nm_r (e' := nI (ck_tg T (ck_an s (Nat.pow 2 w)))) ?_ (nm_r (nI_1 w) (H hw8))⟩
      rw [nI_clamp (by omega)]
      exact ht _ hx
theorem ck_mt9 {post : Int32 → St2 → Prop} (hj : ck_jr J a1) {r : Nat} (H : ∀ b7, post (nI r) (f0, a1, a2, a3, a4, a5, a6, b7, a8, a9, a10)) :
    ∀ (f s T : Nat) (b7 : Nat → Int32), s + f = 256 → ck_tr s T b7 → ck_mt J f s T = some r → wX_matching_9 post f0 (f + 1) (nI s) a1 a2 a3 a4 a5 a6 b7 a8 a9 a10 := by
  intro f
  induction f with
  | zero =>
    intro s T b7 hs ht h
    simp only [ck_mt, Option.some.injEq] at h
    refine br_t (nI_lt (a := 255) (by omega) (by omega)) ?_
    rw [ht.2 255 (by omega), h]
    exact H b7
  | succ f ih =>
    intro s T b7 hs ht h
    simp only [ck_mt] at h
    cases hv : ck_lo s 8 0 with
    | zero =>
      rw [hv] at h
      exact absurd h (by simp)
    | succ v =>
      rw [hv] at h
      dsimp only at h
      cases e : and (Nat.blt (ck_an s (Nat.pow 2 v)) s) (Nat.blt (ck_mx J T v (ck_an s (Nat.pow 2 v))) 16) with
      | false =>
        rw [e, cond_false] at h
        exact absurd h (by simp)
      | true =>
        rw [e, cond_true] at h
        rw [Bool.and_eq_true] at e
        have hx := ck_blt_lt e.1
        have hm := ck_blt_lt e.2
        have hg := ck_tg_lt T (ck_an s (Nat.pow 2 v))
        exact br_f (nI_nlt (a := 255) (by omega) (by omega)) ⟨8 + 1, ck_lo18 (T := T) (by omega) hx ht.2 (fun hv8 => ⟨Nat.sub 7 v + 1, ck_mi53 hj (by omega) hv8 hx ht.2 hm (ih (s + 1) _ _ (by omega) (ck_tr_add ht hm) h) (Nat.sub 7 v) (v + 1) _ (show v + 1 + (7 - v) = 8 by omega) (by omega) rfl⟩) 8 0 rfl hv⟩
theorem ck_mtw {post : Int32 → St2 → Prop} {r : Nat} (hj : ck_jr J a1) (e : ck_mt J 255 1 0 = some r) (H : ∀ b7, post (nI r) (f0, a1, a2, a3, a4, a5, a6, b7, a8, a9, a10)) : wpX_matching post (f0, a1, a2, a3, a4, a5, a6, a7, a8, a9, a10) := by
  unfold wpX_matching
  dsimp only
  refine nm_e ⟨255 + 1, ck_mt9 hj H 255 1 0 _ rfl ⟨by decide, fun j hj => ?_⟩ e⟩
  have e0 : j = 0 := by omega
  subst e0
  rw [pk_us]
  rfl
end
end
section
/-! ===== the graphs ===== -/
def ck_e (a b : Nat) : Nat := Nat.add (Nat.pow 2 (8 * a + b)) (Nat.pow 2 (8 * b + a))
def ck_J1 (c : Nat) : Nat := ck_e c ((c + 1) % 8)
def ck_J2 (c : Nat) : Nat := Nat.add (ck_J1 c) (ck_e c ((c + 2) % 8))
def ck_J3 (c : Nat) : Nat := Nat.add (ck_J2 c) (ck_e c ((c + 3) % 8))
def ck_J4 (c : Nat) : Nat := Nat.add (ck_J2 c) (ck_e ((c + 1) % 8) ((c + 2) % 8))
/-! ===== the executor over them ===== -/
theorem ck_s1 : ∀ c, c < 8 → ck_sv (ck_J1 c) 255 = some 1 := by decide +kernel
theorem ck_s2 : ∀ c, c < 8 → ck_sv (ck_J2 c) 255 = some 1 := by decide +kernel
theorem ck_s3 : ∀ c, c < 8 → ck_sv (ck_J3 c) 255 = some 1 := by decide +kernel
theorem ck_s4 : ∀ c, c < 8 → ck_sv (ck_J4 c) 255 = some 2 := by decide +kernel
theorem ck_h1 : ∀ c, c < 8 → ck_ma (ck_J1 c) 255 255 = some 2 := by decide +kernel
theorem ck_h2 : ∀ c, c < 8 → ck_ma (ck_J2 c) 255 255 = some 2 := by decide +kernel
theorem ck_h3 : ∀ c, c < 8 → ck_ma (ck_J3 c) 255 255 = some 2 := by decide +kernel
theorem ck_h4 : ∀ c, c < 8 → ck_ma (ck_J4 c) 255 255 = some 3 := by decide +kernel
theorem ck_y1 : ∀ c, c < 8 → ck_ay (ck_J1 c) 1 8 0 0 = some 0 := by decide +kernel
theorem ck_y2 : ∀ c, c < 8 → ck_ay (ck_J2 c) 1 8 0 0 = some (2 ^ c) := by decide +kernel
theorem ck_y3 : ∀ c, c < 8 → ck_ay (ck_J3 c) 1 8 0 0 = some (2 ^ c) := by decide +kernel
theorem ck_y4 : ∀ c, c < 8 → ck_ay (ck_J4 c) 2 8 0 0 = some 0 := by decide +kernel
theorem ck_w1 : ∀ c, c < 8 → ck_wh (ck_J1 c) 2 0 1 8 0 0 = some 0 := by decide +kernel
theorem ck_w2 : ∀ c, c < 8 → ck_wh (ck_J2 c) 2 0 1 8 0 0 = some (2 ^ c) := by decide +kernel
theorem ck_w3 : ∀ c, c < 8 → ck_wh (ck_J3 c) 2 0 1 8 0 0 = some (2 ^ c) := by decide +kernel
theorem ck_w4 : ∀ c, c < 8 → ck_wh (ck_J4 c) 3 0 1 8 0 0 = some 0 := by decide +kernel
theorem ck_r1 : ∀ c, c < 8 → ck_wh (ck_J1 c) 2 1 2 8 0 0 = some (ck_an 255 (Nat.lor (2 ^ c) (2 ^ ((c + 1) % 8)))) := by decide +kernel
theorem ck_r2 : ∀ c, c < 8 → ck_wh (ck_J2 c) 2 1 2 8 0 0 = some (ck_an 255 (2 ^ c)) := by decide +kernel
theorem ck_r3 : ∀ c, c < 8 → ck_wh (ck_J3 c) 2 1 2 8 0 0 = some (ck_an 255 (2 ^ c)) := by decide +kernel
theorem ck_r4 : ∀ c, c < 8 → ck_wh (ck_J4 c) 3 1 2 8 0 0 = some (ck_an 255 (Nat.lor (Nat.lor (2 ^ c) (2 ^ ((c + 1) % 8))) (2 ^ ((c + 2) % 8)))) := by decide +kernel
theorem ck_p1 : ∀ c, c < 8 → ck_mt (ck_J1 c) 255 1 0 = some 1 := by decide +kernel
theorem ck_p2 : ∀ c, c < 8 → ck_mt (ck_J2 c) 255 1 0 = some 1 := by decide +kernel
theorem ck_p3 : ∀ c, c < 8 → ck_mt (ck_J3 c) 255 1 0 = some 1 := by decide +kernel
theorem ck_p4 : ∀ c, c < 8 → ck_mt (ck_J4 c) 255 1 0 = some 1 := by decide +kernel
end
section
/-! ===== joins ===== -/
def ck_jn (a : Nat → Int32) (p q : Nat) : Nat → Int32 :=
  upd (upd a p ((a p ||| nI (2 ^ q)).toInt16.toInt32)) q (((upd a p ((a p ||| nI (2 ^ q)).toInt16.toInt32)) q ||| nI (2 ^ p)).toInt16.toInt32)
theorem ck_c1 : ∀ c, c < 8 → (nI c + 1) &&& 7 = nI ((c + 1) % 8) := by decide +kernel
theorem ck_c2 : ∀ c, c < 8 → (nI c + 2) &&& 7 = nI ((c + 2) % 8) := by decide +kernel
theorem ck_c3 : ∀ c, c < 8 → (nI c + 3) &&& 7 = nI ((c + 3) % 8) := by decide +kernel
def ck_b1 (c : Nat) : Nat → Int32 := ck_jn (fun _ => 0) c ((c + 1) % 8)
def ck_b2 (c : Nat) : Nat → Int32 := ck_jn (ck_b1 c) c ((c + 2) % 8)
def ck_b3 (c : Nat) : Nat → Int32 := ck_jn (ck_b2 c) c ((c + 3) % 8)
def ck_b4 (c : Nat) : Nat → Int32 := ck_jn (ck_b2 c) ((c + 1) % 8) ((c + 2) % 8)
theorem ck_j1 : ∀ c, c < 8 → ∀ v, v < 8 → ck_b1 c v = nI (ck_g (ck_J1 c) v) := by decide +kernel
theorem ck_j2 : ∀ c, c < 8 → ∀ v, v < 8 → ck_b2 c v = nI (ck_g (ck_J2 c) v) := by decide +kernel
theorem ck_j3 : ∀ c, c < 8 → ∀ v, v < 8 → ck_b3 c v = nI (ck_g (ck_J3 c) v) := by decide +kernel
theorem ck_j4 : ∀ c, c < 8 → ∀ v, v < 8 → ck_b4 c v = nI (ck_g (ck_J4 c) v) := by decide +kernel
section
variable {f0 : Int32} {a1 a2 a3 a4 a5 a6 a7 a8 a9 a10 : Nat → Int32} {J : Nat}
theorem ck_jow {post : Int32 → St2 → Prop} {p q : Nat} {x y : Int32} (hp : p < 8) (hq : q < 8) (hn : p ≠ q) (hx : x = nI p) (hy : y = nI q) (H : post 1 (f0, ck_jn a1 p q, a2, a3, a4, a5, a6, a7, a8, a9, a10)) : wpX_join post (f0, a1, a2, a3, a4, a5, a6, a7, a8, a9, a10) x y 1 := by
  subst hx hy
  unfold wpX_join
  dsimp only
  refine ck_iv hp (br_f (by decide) (ck_iv hq (br_f (by decide) (br_f (fun z => hn ((nI_eq (by omega) (by omega)).mp z)) (br_f (by decide) ⟨vp_in_nI hp (by decide), ?_⟩)))))
  unfold wX_join_55
  rw [ck_1sh p (by omega), ck_1sh q (by omega), nI_clamp (show p < 2 ^ 31 by omega), nI_clamp (show q < 2 ^ 31 by omega)]
  exact ⟨vp_in_nI hp (by decide), nm_e (br_f (by decide) ⟨vp_in_nI hq (by decide), vp_in_nI hq (by decide), nm_e H⟩)⟩
/-! ===== the law behind the joins ===== -/
variable {post : Int32 → St0 → Prop} {mc ms kc ks c : Nat}
theorem ck_134 {x4 x5 x6 z0 : Int32} {l h y w b p : Nat} (hj : ck_jr J a1) (el : ck_sv J 255 = some l) (eh : ck_ma J 255 255 = some h) (ey : ck_ay J l 8 0 0 = some y) (ew : ck_wh J h 0 1 8 0 0 = some w) (eb : ck_wh J h 1 2 8 0 0 = some b) (ep : ck_mt J 255 1 0 = some p)
    (H : (x6 = 0 → wL_lawOf_213 post mc ms x4 x5 x6 z0 (nI l) (nI h) (nI y) (nI w) (nI b) (nI p) 255 kc ks) ∧ (¬ x6 = 0 → wL_lawOf_213 post mc ms x4 x5 x6 z0 (nI l) (nI h) (nI y) (nI w) (nI b) (nI p) (255 &&& (((((1 : Int32) <<< (x4 &&& 31)) ||| ((1 : Int32) <<< (((x4 + 1) &&& 7) &&& 31))) ||| ((1 : Int32) <<< (((x4 + 2) &&& 7) &&& 31))) ^^^ (-1))) kc ks)) :
    wL_lawOf_134 post mc ms x4 x5 x6 z0 kc ks f0 a1 a2 a3 a4 a5 a6 a7 a8 a9 a10 := by
  unfold wL_lawOf_134
  refine ck_lew hj el (fun f1 b2 b3 _ => ?_)
  dsimp only
  refine ck_haw hj eh (fun b4 b5 b6 _ => ?_)
  dsimp only
  refine ck_alw hj el ey (fun f2 c2 c3 => ?_)
  dsimp only
  refine ck_whow hj eh ew (fun c4 c5 c6 => ?_)
  dsimp only
  refine ck_barw hj eh eb (fun d4 d5 d6 => ?_)
  dsimp only
  exact ck_mtw hj ep (fun d7 => H)
theorem ck_q1 : ∀ c, c < 8 → nI (ck_an 255 (Nat.lor (2 ^ c) (2 ^ ((c + 1) % 8)))) = 255 &&& ((((1 : Int32) <<< (nI c &&& 31)) ||| ((1 : Int32) <<< (((nI c + 1) &&& 7) &&& 31))) ^^^ (-1)) := by decide +kernel
theorem ck_q2 : ∀ c, c < 8 → nI (ck_an 255 (2 ^ c)) = 255 &&& (((1 : Int32) <<< (nI c &&& 31)) ^^^ (-1)) := by decide +kernel
theorem ck_q4 : ∀ c, c < 8 → nI (ck_an 255 (Nat.lor (Nat.lor (2 ^ c) (2 ^ ((c + 1) % 8))) (2 ^ ((c + 2) % 8)))) = 255 &&& (((((1 : Int32) <<< (nI c &&& 31)) ||| ((1 : Int32) <<< (((nI c + 1) &&& 7) &&& 31))) ||| ((1 : Int32) <<< (((nI c + 2) &&& 7) &&& 31))) ^^^ (-1)) := by decide +kernel
/-- one edge -/
theorem ck_f1 (hc : c < 8) (H : post 1 ()) : wL_lawOf_231 post mc ms (nI c) 0 1 (nI 1) (nI 2) (nI 0) (nI 0) (nI (ck_an 255 (Nat.lor (2 ^ c) (2 ^ ((c + 1) % 8))))) (nI 1) 255 0 kc ks :=
  nm_e (br_f (by decide) (br_t rfl (br_t rfl (br_t rfl (br_t rfl (br_t rfl (br_t rfl (br_t rfl (br_t rfl (br_t rfl (br_t rfl (br_t rfl (br_t (ck_q1 c hc) H)))))))))))))
/-- a star -/
theorem ck_f2 (hc : c < 8) (H : post 1 ()) : wL_lawOf_231 post mc ms (nI c) 0 1 (nI 1) (nI 2) (nI (2 ^ c)) (nI (2 ^ c)) (nI (ck_an 255 (2 ^ c))) (nI 1) 255 1 kc ks :=
  nm_e (br_f (by decide) (br_t rfl (br_t rfl (br_t rfl (br_t rfl (br_f (by decide) (br_t (ck_1sh c (by omega)).symm (br_f (by decide) (br_t (ck_1sh c (by omega)).symm (br_t rfl (br_t rfl (br_f (by decide) (br_t (ck_q2 c hc) H)))))))))))))
/-- the ring -/
theorem ck_f4 {x : Int32} (hx : nI (ck_an 255 (Nat.lor (Nat.lor (2 ^ c) (2 ^ ((c + 1) % 8))) (2 ^ ((c + 2) % 8)))) = x) (H : post 1 ()) : wL_lawOf_231 post mc ms (nI c) 1 1 (nI 2) (nI 3) (nI 0) (nI 0) (nI (ck_an 255 (Nat.lor (Nat.lor (2 ^ c) (2 ^ ((c + 1) % 8))) (2 ^ ((c + 2) % 8))))) (nI 1) x 0 kc ks :=
  nm_e (br_f (by decide) (br_f (by decide) (br_t rfl (br_f (by decide) (br_t rfl (br_t rfl (br_t rfl (br_t rfl (br_t rfl (br_t rfl (br_f (by decide) (br_t hx H))))))))))))
theorem ck_k1 (hc : c < 8) (H : post 1 ()) : wL_lawOf_79 post mc ms (nI c) (nI 1) 0 kc ks f0 (ck_b1 c) a2 a3 a4 a5 a6 a7 a8 a9 a10 :=
  br_t rfl (br_t (by decide) (ck_134 (J := ck_J1 c) (ck_j1 c hc) (ck_s1 c hc) (ck_h1 c hc) (ck_y1 c hc) (ck_w1 c hc) (ck_r1 c hc) (ck_p1 c hc) (br_t rfl (br_t rfl (br_t (by decide) (ck_f1 hc H))))))
theorem ck_k2 (hc : c < 8) (H : post 1 ()) : wL_lawOf_79 post mc ms (nI c) (nI 2) 0 kc ks f0 (ck_b2 c) a2 a3 a4 a5 a6 a7 a8 a9 a10 :=
  br_t rfl (br_t (by decide) (ck_134 (J := ck_J2 c) (ck_j2 c hc) (ck_s2 c hc) (ck_h2 c hc) (ck_y2 c hc) (ck_w2 c hc) (ck_r2 c hc) (ck_p2 c hc) (br_t rfl (br_t rfl (br_f (by decide) (ck_f2 hc H))))))
theorem ck_k3 (hc : c < 8) (H : post 1 ()) : wL_lawOf_79 post mc ms (nI c) (nI 3) 0 kc ks f0 (ck_b2 c) a2 a3 a4 a5 a6 a7 a8 a9 a10 := by
  refine br_t rfl (br_f (by decide) (ck_jow (q := (c + 3) % 8) hc (by omega) (by omega) rfl (ck_c3 c hc) ?_))
  dsimp only
  exact br_f (by decide) (ck_134 (J := ck_J3 c) (ck_j3 c hc) (ck_s3 c hc) (ck_h3 c hc) (ck_y3 c hc) (ck_w3 c hc) (ck_r3 c hc) (ck_p3 c hc) (br_t rfl (br_t rfl (br_f (by decide) (ck_f2 hc H)))))
theorem ck_k4 {x5 : Int32} (hc : c < 8) (H : post 1 ()) : wL_lawOf_79 post mc ms (nI c) x5 1 kc ks f0 (ck_b2 c) a2 a3 a4 a5 a6 a7 a8 a9 a10 := by
  refine br_f (by decide) (ck_jow (p := (c + 1) % 8) (q := (c + 2) % 8) (by omega) (by omega) (by omega) (ck_c1 c hc) (ck_c2 c hc) ?_)
  dsimp only
  exact ck_134 (J := ck_J4 c) (ck_j4 c hc) (ck_s4 c hc) (ck_h4 c hc) (ck_y4 c hc) (ck_w4 c hc) (ck_r4 c hc) (ck_p4 c hc) (br_f (by decide) (br_f (by decide) (ck_f4 (ck_q4 c hc) H)))
/-- the second join -/
theorem ck_64 {x5 x6 : Int32} (hc : c < 8) (H : wL_lawOf_79 post mc ms (nI c) x5 x6 kc ks f0 (ck_b2 c) a2 a3 a4 a5 a6 a7 a8 a9 a10) : wL_lawOf_64 post mc ms (nI c) x5 x6 kc ks f0 (ck_b1 c) a2 a3 a4 a5 a6 a7 a8 a9 a10 := by
  unfold wL_lawOf_64
  refine ck_jow (q := (c + 2) % 8) hc (by omega) (by omega) rfl (ck_c2 c hc) ?_
  exact H
theorem ck_36 {z0 : Int32} {n : Nat} (hc : c < 8) (hn : n < 3) (hz : z0 = 0 ∨ z0 = 1) (H : post 1 ()) : wL_lawOf_36 post mc ms (nI c) (nI (1 + n)) z0 kc ks f0 (fun _ => 0) a2 a3 a4 a5 a6 a7 a8 a9 a10 := by
  unfold wL_lawOf_36
  refine ck_jow (q := (c + 1) % 8) hc (by omega) (by omega) rfl (ck_c1 c hc) ?_
  dsimp only
  rcases hz with hz | hz
  · subst hz
    match n, hn with
    | 0, _ => exact br_t rfl (br_t (by decide) (ck_k1 hc H))
    | 1, _ => exact br_t rfl (br_f (by decide) (ck_64 hc (ck_k2 hc H)))
    | 2, _ => exact br_t rfl (br_f (by decide) (ck_64 hc (ck_k3 hc H)))
  · subst hz
    exact br_f (by decide) (ck_64 hc (ck_k4 hc H))
end
theorem ck_lawOf {post : Int32 → St0 → Prop} (p0 p1 p2 : Int32) (H : post 1 ()) : wpL_lawOf post 11 621 () p0 p1 p2 := by
  obtain ⟨c, hc, ec⟩ := pk_andE p0 (m := 7) 3 (by decide)
  obtain ⟨k, hk, ek⟩ := pk_andE p1 (m := 65535) 16 (by decide)
  refine ⟨by omega, by omega, 10, 610, by omega, by omega, by omega, by omega, by omega, by omega, by omega, by omega, by omega, by omega, by omega, by omega, by omega, by omega, by omega, by omega, by omega, by omega, by omega, by omega, by omega, by omega, ?_⟩
  dsimp only
  refine nm_r ec ⟨by decide, nm_r (e' := nI (1 + k % 3)) ?_ (br_c (fun _ => ck_36 hc (Nat.mod_lt k (by decide)) (Or.inr rfl) H) (fun _ => ck_36 hc (Nat.mod_lt k (by decide)) (Or.inl rfl) H))⟩
  have hk2 : k < 2 ^ 31 := Nat.lt_trans hk (by decide)
  rw [ek, show (3 : Int32) = nI 3 from rfl, pk_rem hk2 (by decide) (by decide)]
  exact nI_add 1 _
theorem ck_cell {post : Int32 → Prop} {L : Nat} {xs : Nat → Int32} {i : Nat} (hL : L ≤ 3) (hi : i < 3) (H : ∀ r, post r) : wpL_cellAt post L xs () (nI i) :=
  pk_le L i (fun _ => H _) (fun z => ⟨vp_in_nI z (by omega), H _⟩)
theorem i_vc (xs : Nat → Int32) (L : Nat) (hL : L ≤ 3) : wpL_law (fun r => r = 1) L xs := by
  unfold wpL_law
  refine ck_cell (i := 0) hL (by omega) (fun r1 => ck_cell (i := 1) hL (by omega) (fun r2 => ck_cell (i := 2) hL (by omega) (fun r3 => ⟨11, 621, by omega, by omega, ?_⟩)))
  exact ck_lawOf r1 r2 r3 rfl
end
