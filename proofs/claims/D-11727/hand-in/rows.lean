section
/-- lists as arrays: a place that isn't there holds d -/
def dm_get {α : Type} (d : α) : Nat → List α → α
  | 0, l => l.headD d
  | j + 1, l => dm_get d j l.tail
def dm_set {α : Type} (d v : α) : Nat → List α → List α
  | 0, l => v :: l.tail
  | j + 1, l => l.headD d :: dm_set d v j l.tail
theorem dm_gs {α : Type} (d v : α) : ∀ (k j : Nat) (l : List α), dm_get d j (dm_set d v k l) = if j = k then v else dm_get d j l
  | 0, 0, l => by simp [dm_get, dm_set]
  | 0, j + 1, l => by simp [dm_get, dm_set]
  | k + 1, 0, l => by simp [dm_get, dm_set]
  | k + 1, j + 1, l => by simp [dm_get, dm_set, dm_gs d v k j l.tail]
theorem dm_g0 {α : Type} (d : α) : ∀ j : Nat, dm_get d j [] = d
  | 0 => rfl
  | j + 1 => dm_g0 d j
def dm_f (l : List Int32) : Nat → Int32 := fun j => dm_get 0 j l
def dm_l (l : List Int64) : Nat → Int64 := fun j => dm_get 0 j l
def dm_n (env : Nat → Int32) (l : List Nat) : Nat → Int32 := fun j => env (dm_get 0 j l)
theorem dm_fu {l : List Int32} {k : Nat} {v : Int32} : upd (dm_f l) k v = dm_f (dm_set 0 v k l) := by
  funext j
  show (if j = k then v else dm_get 0 j l) = dm_get 0 j (dm_set 0 v k l)
  rw [dm_gs]
theorem dm_lu {l : List Int64} {k : Nat} {v : Int64} : vp_updL (dm_l l) k v = dm_l (dm_set 0 v k l) := by
  funext j
  show (if j = k then v else dm_get 0 j l) = dm_get 0 j (dm_set 0 v k l)
  rw [dm_gs]
theorem dm_nu {env : Nat → Int32} {l : List Nat} {k c : Nat} : upd (dm_n env l) k (env c) = dm_n env (dm_set 0 c k l) := by
  funext j
  show (if j = k then env c else env (dm_get 0 j l)) = env (dm_get 0 j (dm_set 0 c k l))
  rw [dm_gs]
  by_cases h : j = k
  · rw [if_pos h, if_pos h]
  · rw [if_neg h, if_neg h]
theorem dm_f0 : (fun _ => 0 : Nat → Int32) = dm_f [] := by
  funext j
  exact (dm_g0 0 j).symm
theorem dm_l0 : (fun _ => 0 : Nat → Int64) = dm_l [] := by
  funext j
  exact (dm_g0 0 j).symm
theorem dm_n0 {env : Nat → Int32} (h0 : env 0 = 0) : (fun _ => 0 : Nat → Int32) = dm_n env [] := by
  funext j
  show 0 = env (dm_get 0 j [])
  rw [dm_g0, h0]
/-- the checks of a picture: a place in range, a road -/
def dm_in (i : Int32) (n : Nat) (a : Bool) : Bool := if i < 0 then false else if n ≤ i.toNatClampNeg then false else a
def dm_cmp (d c : Nat) (a b : Bool) : Bool := if d = c then a else if d = 3 ∧ c = 2 then b else false
theorem dm_if {c : Prop} [Decidable c] {a b : Bool} {A B : Prop} (h : (if c then a else b) = true) (f : a = true → A) (g : b = true → B) : (c → A) ∧ (¬ c → B) :=
  ⟨fun hc => f (by rw [if_pos hc] at h; exact h), fun hc => g (by rw [if_neg hc] at h; exact h)⟩
theorem dm_ic {c : Prop} [Decidable c] {a b : Bool} {A B : Prop} (h : (if c then a else b) = true) (f : c → a = true → A) (g : ¬ c → b = true → B) : (c → A) ∧ (¬ c → B) :=
  ⟨fun hc => f hc (by rw [if_pos hc] at h; exact h), fun hc => g hc (by rw [if_neg hc] at h; exact h)⟩
theorem dm_gd {i : Int32} {n : Nat} {a : Bool} {A : Prop} (h : dm_in i n a = true) (f : vp_in i n → a = true → A) : vp_in i n ∧ A := by
  unfold dm_in at h
  by_cases h1 : i < 0
  · rw [if_pos h1] at h
    exact absurd h (by decide)
  · rw [if_neg h1] at h
    by_cases h2 : n ≤ i.toNatClampNeg
    · rw [if_pos h2] at h
      exact absurd h (by decide)
    · rw [if_neg h2] at h
      have hv : vp_in i n := fun z => z.elim h1 h2
      exact ⟨hv, f hv h⟩
theorem dm_cmp_ok {env : Nat → Int32} (hne : ¬ env 3 = env 2) {d c : Nat} {a b : Bool} {A B : Prop} (h : dm_cmp d c a b = true) (f : a = true → A) (g : b = true → B) : (env d = env c → A) ∧ (¬ env d = env c → B) := by
  unfold dm_cmp at h
  by_cases h1 : d = c
  · rw [if_pos h1] at h
    exact br_t (by rw [h1]) (f h)
  · rw [if_neg h1] at h
    by_cases h2 : d = 3 ∧ c = 2
    · rw [if_pos h2] at h
      exact br_f (by rw [h2.1, h2.2]; exact hne) (g h)
    · rw [if_neg h2] at h
      exact absurd h (by decide)
end
section
/-- the picture of a state, and what goes on with one -/
abbrev dm_S : Type := Int32 × Int64 × Int32 × Int64 × Int32 × List Int32 × List Int32 × List Int32 × List Int32 × List Int32 × List Int32 × List Int32 × List Nat × List Int32 × List Int32 × List Int64 × List Int32 × List Int32
abbrev dm_K : Type := Int32 → Int64 → Int32 → Int64 → Int32 → List Int32 → List Int32 → List Int32 → List Int32 → List Int32 → List Int32 → List Int32 → List Nat → List Int32 → List Int32 → List Int64 → List Int32 → List Int32 → Bool
def dm_rs (k : List Int32 → List Int32 → List Int32 → List Int64 → Bool) : Nat → Int32 → List Int32 → List Int32 → List Int32 → List Int64 → Bool
  | 0 => fun _ _ _ _ _ => false
  | n + 1 => fun x lt wg st wt => if 12 ≤ x then k lt wg st wt else dm_in x 12 (dm_rs k n (x + 1) (dm_set 0 x.toInt8.toInt32 x.toNatClampNeg lt) (dm_set 0 1 x.toNatClampNeg wg) (dm_set 0 0 x.toNatClampNeg st) (dm_set 0 0 x.toNatClampNeg wt))
def dm_iv (x : Int32) (k : Int32 → Bool) : Bool := if x < 0 then k 0 else if 11 < x then k 0 else k 1
def dm_lr (rd : Int64) (k : Int32 → Bool) : Nat → Int32 → Bool
  | 0 => fun _ => false
  | n + 1 => fun x => if 39 ≤ x then k x else if ((rd.toUInt64 >>> (x.toInt64.toUInt64 &&& Int64.toUInt64 63)).toInt64) &&& 1 = 0 then dm_lr rd k n (x + 1) else k x
def dm_hd (k : Int32 → List Int32 → Bool) : Nat → Int32 → List Int32 → Bool
  | 0 => fun _ _ => false
  | n + 1 => fun x lt => dm_in x 12 (if dm_f lt x.toNatClampNeg = x then k x lt else dm_in (dm_f lt x.toNatClampNeg) 12
      (dm_hd k n (dm_f (dm_set 0 (dm_f lt (dm_f lt x.toNatClampNeg).toNatClampNeg).toInt8.toInt32 x.toNatClampNeg lt) x.toNatClampNeg) (dm_set 0 (dm_f lt (dm_f lt x.toNatClampNeg).toNatClampNeg).toInt8.toInt32 x.toNatClampNeg lt)))
def dm_cp (op : Int32) (c d : Nat) (k : Nat → Bool) : Bool := if op = 3 then (if c = 1 ∧ d = 2 then k 4 else false) else false
def dm_wk (su rd : Int64) (wt : List Int64) (h : Int32) (k : Int64 → List Int64 → Bool) : Bool := dm_in h 12 (k (rd ||| (dm_l wt h.toNatClampNeg &&& su)) (dm_set 0 0 h.toNatClampNeg wt))
def dm_bn (sc : Int32) (su : Int64) (jc : Int32) (rd : Int64) (br : Int32) (kd : List Int32) (tg : List Int32) (sy : List Int32) (sz : List Int32) (lt : List Int32) (wg : List Int32) (st : List Int32) (nm : List Nat) (lf : List Int32) (rt : List Int32) (wt : List Int64) (ja : List Int32) (jb : List Int32) (x : Int32) (c : Nat) (k : dm_K) : Bool :=
  dm_hd (fun h lt => dm_in h 12 (if dm_f st h.toNatClampNeg = 0 then dm_wk su rd wt h (fun rd wt => k sc su jc rd br kd tg sy sz lt wg (dm_set 0 1 h.toNatClampNeg st) (dm_set 0 c h.toNatClampNeg nm) lf rt wt ja jb)
    else if dm_f st h.toNatClampNeg = 2 then k sc su jc rd 1 kd tg sy sz lt wg st nm lf rt wt ja jb else dm_cmp (dm_get 0 h.toNatClampNeg nm) c (k sc su jc rd br kd tg sy sz lt wg st nm lf rt wt ja jb) (k sc su jc rd 1 kd tg sy sz lt wg st nm lf rt wt ja jb))) 13 x lt
def dm_wn (jc : Int32) (ja jb : List Int32) (x y : Int32) (k : Int32 → List Int32 → List Int32 → Bool) : Bool :=
  dm_in jc 40 (k (jc + 1) (dm_set 0 x.toInt8.toInt32 jc.toNatClampNeg ja) (dm_set 0 y.toInt8.toInt32 jc.toNatClampNeg jb))
def dm_t98 (sc : Int32) (su : Int64) (jc : Int32) (rd : Int64) (br : Int32) (kd : List Int32) (tg : List Int32) (sy : List Int32) (sz : List Int32) (lt : List Int32) (wg : List Int32) (st : List Int32) (nm : List Nat) (lf : List Int32) (rt : List Int32) (wt : List Int64) (ja : List Int32) (jb : List Int32) (x1 z0 : Int32) (k : dm_K) : Bool := dm_in z0 12 (k sc su jc rd br kd tg sy sz lt wg st nm lf rt (dm_set 0 (dm_l wt z0.toNatClampNeg ||| ((1 : Int64) <<< (x1.toInt64 &&& 63))) z0.toNatClampNeg wt) ja jb)
def dm_t80 (sc : Int32) (su : Int64) (jc : Int32) (rd : Int64) (br : Int32) (kd : List Int32) (tg : List Int32) (sy : List Int32) (sz : List Int32) (lt : List Int32) (wg : List Int32) (st : List Int32) (nm : List Nat) (lf : List Int32) (rt : List Int32) (wt : List Int64) (ja : List Int32) (jb : List Int32) (x1 x2 x3 : Int32) (k : dm_K) : Bool := dm_in x2 12 (if dm_f st x2.toNatClampNeg = 0 then dm_t98 sc su jc rd br kd tg sy sz lt wg st nm lf rt wt ja jb x1 x2 k else dm_t98 sc su jc rd br kd tg sy sz lt wg st nm lf rt wt ja jb x1 x3 k)
def dm_t182 (sc : Int32) (su : Int64) (jc : Int32) (rd : Int64) (br : Int32) (kd : List Int32) (tg : List Int32) (sy : List Int32) (sz : List Int32) (lt : List Int32) (wg : List Int32) (st : List Int32) (nm : List Nat) (lf : List Int32) (rt : List Int32) (wt : List Int64) (ja : List Int32) (jb : List Int32) (z0 z1 : Int32) (k : dm_K) : Bool := dm_wn jc ja jb z1 z0 (fun jc ja jb => k sc su jc rd br kd tg sy sz lt wg st nm lf rt wt ja jb)
def dm_t60b (sc : Int32) (su : Int64) (jc : Int32) (rd : Int64) (br : Int32) (kd : List Int32) (tg : List Int32) (sy : List Int32) (sz : List Int32) (lt : List Int32) (wg : List Int32) (st : List Int32) (nm : List Nat) (lf : List Int32) (rt : List Int32) (wt : List Int64) (ja : List Int32) (jb : List Int32) (x1 x2 x3 x4 : Int32) (k : dm_K) : Bool := dm_in x1 40 (
  if x4 = 0 then dm_cp (dm_f kd x1.toNatClampNeg) (dm_get 0 x2.toNatClampNeg nm) (dm_get 0 x3.toNatClampNeg nm) (fun e => dm_bn sc su jc rd br kd tg sy sz lt wg st nm lf rt wt ja jb (dm_f tg x1.toNatClampNeg) e k)
  else if dm_f kd x1.toNatClampNeg = 5 then dm_t182 sc su jc rd br kd tg sy sz lt wg st nm lf rt wt ja jb (dm_f lf x2.toNatClampNeg) (dm_f tg x1.toNatClampNeg) k else dm_t182 sc su jc rd br kd tg sy sz lt wg st nm lf rt wt ja jb (dm_f rt x2.toNatClampNeg) (dm_f tg x1.toNatClampNeg) k)
def dm_t60 (sc : Int32) (su : Int64) (jc : Int32) (rd : Int64) (br : Int32) (kd : List Int32) (tg : List Int32) (sy : List Int32) (sz : List Int32) (lt : List Int32) (wg : List Int32) (st : List Int32) (nm : List Nat) (lf : List Int32) (rt : List Int32) (wt : List Int64) (ja : List Int32) (jb : List Int32) (x1 x2 x3 x4 z0 : Int32) (k : dm_K) : Bool :=
  dm_in x2 12 (if dm_f st x2.toNatClampNeg = 0 then dm_t80 sc su jc rd br kd tg sy sz lt wg st nm lf rt wt ja jb x1 x2 x3 k else dm_in x3 12 (if dm_f st x3.toNatClampNeg = 0 then dm_t80 sc su jc rd br kd tg sy sz lt wg st nm lf rt wt ja jb x1 x2 x3 k
    else if dm_f st x2.toNatClampNeg = z0 then (if dm_f st x3.toNatClampNeg = z0 then dm_t60b sc (su &&& (((1 : Int64) <<< (x1.toInt64 &&& 63)) ^^^ (-1))) jc rd br kd tg sy sz lt wg st nm lf rt wt ja jb x1 x2 x3 x4 k else k sc su jc rd br kd tg sy sz lt wg st nm lf rt wt ja jb) else k sc su jc rd br kd tg sy sz lt wg st nm lf rt wt ja jb))
def dm_t48 (sc : Int32) (su : Int64) (jc : Int32) (rd : Int64) (br : Int32) (kd : List Int32) (tg : List Int32) (sy : List Int32) (sz : List Int32) (lt : List Int32) (wg : List Int32) (st : List Int32) (nm : List Nat) (lf : List Int32) (rt : List Int32) (wt : List Int64) (ja : List Int32) (jb : List Int32) (x1 x2 x3 z0 : Int32) (k : dm_K) : Bool := if z0 = 0 then dm_t60 sc su jc rd br kd tg sy sz lt wg st nm lf rt wt ja jb x1 x2 x3 z0 1 k else dm_t60 sc su jc rd br kd tg sy sz lt wg st nm lf rt wt ja jb x1 x2 x3 z0 2 k
def dm_ts (sc : Int32) (su : Int64) (jc : Int32) (rd : Int64) (br : Int32) (kd : List Int32) (tg : List Int32) (sy : List Int32) (sz : List Int32) (lt : List Int32) (wg : List Int32) (st : List Int32) (nm : List Nat) (lf : List Int32) (rt : List Int32) (wt : List Int64) (ja : List Int32) (jb : List Int32) (x : Int32) (k : dm_K) : Bool := dm_in x 40 (dm_hd (fun r lt => dm_hd (fun r2 lt =>
  if dm_f kd x.toNatClampNeg = 5 then dm_t48 sc su jc rd br kd tg sy sz lt wg st nm lf rt wt ja jb x r r2 1 k else if dm_f kd x.toNatClampNeg = 6 then dm_t48 sc su jc rd br kd tg sy sz lt wg st nm lf rt wt ja jb x r r2 1 k else dm_t48 sc su jc rd br kd tg sy sz lt wg st nm lf rt wt ja jb x r r2 0 k) 13 (dm_f sz x.toNatClampNeg) lt) 13 (dm_f sy x.toNatClampNeg) lt)
def dm_bc (sc : Int32) (su : Int64) (jc : Int32) (rd : Int64) (br : Int32) (kd : List Int32) (tg : List Int32) (sy : List Int32) (sz : List Int32) (lt : List Int32) (wg : List Int32) (st : List Int32) (nm : List Nat) (lf : List Int32) (rt : List Int32) (wt : List Int64) (ja : List Int32) (jb : List Int32) (x a b : Int32) (k : dm_K) : Bool :=
  dm_hd (fun h lt => dm_in h 12 (if dm_f st h.toNatClampNeg = 0 then dm_wk su rd wt h (fun rd wt => k sc su jc rd br kd tg sy sz lt wg (dm_set 0 2 h.toNatClampNeg st) nm (dm_set 0 a.toInt8.toInt32 h.toNatClampNeg lf) (dm_set 0 b.toInt8.toInt32 h.toNatClampNeg rt) wt ja jb)
    else if dm_f st h.toNatClampNeg = 2 then dm_wn jc ja jb (dm_f lf h.toNatClampNeg) a (fun jc ja jb => dm_wn jc ja jb (dm_f rt h.toNatClampNeg) b (fun jc ja jb => k sc su jc rd br kd tg sy sz lt wg st nm lf rt wt ja jb)) else k sc su jc rd 1 kd tg sy sz lt wg st nm lf rt wt ja jb)) 13 x lt
def dm_j158 (sc : Int32) (su : Int64) (jc : Int32) (rd : Int64) (br : Int32) (kd : List Int32) (tg : List Int32) (sy : List Int32) (sz : List Int32) (lt : List Int32) (wg : List Int32) (st : List Int32) (nm : List Nat) (lf : List Int32) (rt : List Int32) (wt : List Int64) (ja : List Int32) (jb : List Int32) (x5 : Int32) (k : dm_K) : Bool := dm_in x5 12 (if dm_f st x5.toNatClampNeg = 0 then k sc su jc rd br kd tg sy sz lt wg st nm lf rt wt ja jb else dm_wk su rd wt x5 (fun rd wt => k sc su jc rd br kd tg sy sz lt wg st nm lf rt wt ja jb))
def dm_j127 (sc : Int32) (su : Int64) (jc : Int32) (rd : Int64) (br : Int32) (kd : List Int32) (tg : List Int32) (sy : List Int32) (sz : List Int32) (lt : List Int32) (wg : List Int32) (st : List Int32) (nm : List Nat) (lf : List Int32) (rt : List Int32) (wt : List Int64) (ja : List Int32) (jb : List Int32) (x5 x6 : Int32) (k : dm_K) : Bool := dm_in x6 12 (if dm_f st x6.toNatClampNeg = 2 then dm_bc sc su jc rd br kd tg sy sz lt wg st nm lf rt wt ja jb x5 (dm_f lf x6.toNatClampNeg) (dm_f rt x6.toNatClampNeg) (fun sc su jc rd br kd tg sy sz lt wg st nm lf rt wt ja jb => dm_j158 sc su jc rd br kd tg sy sz lt wg st nm lf rt wt ja jb x5 k) else dm_j158 sc su jc rd br kd tg sy sz lt wg st nm lf rt wt ja jb x5 k)
def dm_j56b (sc : Int32) (su : Int64) (jc : Int32) (rd : Int64) (br : Int32) (kd : List Int32) (tg : List Int32) (sy : List Int32) (sz : List Int32) (lt : List Int32) (wg : List Int32) (st : List Int32) (nm : List Nat) (lf : List Int32) (rt : List Int32) (wt : List Int64) (ja : List Int32) (jb : List Int32) (x5 z0 : Int32) (k : dm_K) : Bool := if dm_f st z0.toNatClampNeg = 1 then dm_bn sc su jc rd br kd tg sy sz lt wg st nm lf rt wt ja jb x5 (dm_get 0 z0.toNatClampNeg nm) (fun sc su jc rd br kd tg sy sz lt wg st nm lf rt wt ja jb => dm_j127 sc su jc rd br kd tg sy sz lt wg st nm lf rt wt ja jb x5 z0 k) else dm_j127 sc su jc rd br kd tg sy sz lt wg st nm lf rt wt ja jb x5 z0 k
def dm_j56 (sc : Int32) (su : Int64) (jc : Int32) (rd : Int64) (br : Int32) (kd : List Int32) (tg : List Int32) (sy : List Int32) (sz : List Int32) (lt : List Int32) (wg : List Int32) (st : List Int32) (nm : List Nat) (lf : List Int32) (rt : List Int32) (wt : List Int64) (ja : List Int32) (jb : List Int32) (x5 z0 : Int32) (k : dm_K) : Bool := dm_in z0 12 (dm_in x5 12 (dm_j56b sc su jc rd br kd tg sy sz (dm_set 0 x5.toInt8.toInt32 z0.toNatClampNeg lt) (dm_set 0 ((dm_f wg x5.toNatClampNeg + dm_f wg z0.toNatClampNeg).toInt8.toInt32) x5.toNatClampNeg wg) st nm lf rt (dm_set 0 (dm_l wt x5.toNatClampNeg ||| dm_l wt z0.toNatClampNeg) x5.toNatClampNeg wt) ja jb x5 z0 k))
def dm_j42 (sc : Int32) (su : Int64) (jc : Int32) (rd : Int64) (br : Int32) (kd : List Int32) (tg : List Int32) (sy : List Int32) (sz : List Int32) (lt : List Int32) (wg : List Int32) (st : List Int32) (nm : List Nat) (lf : List Int32) (rt : List Int32) (wt : List Int64) (ja : List Int32) (jb : List Int32) (x3 x4 z0 : Int32) (k : dm_K) : Bool := if z0 = x3 then dm_j56 sc su jc rd br kd tg sy sz lt wg st nm lf rt wt ja jb z0 x4 k else dm_j56 sc su jc rd br kd tg sy sz lt wg st nm lf rt wt ja jb z0 x3 k
def dm_jn (sc : Int32) (su : Int64) (jc : Int32) (rd : Int64) (br : Int32) (kd : List Int32) (tg : List Int32) (sy : List Int32) (sz : List Int32) (lt : List Int32) (wg : List Int32) (st : List Int32) (nm : List Nat) (lf : List Int32) (rt : List Int32) (wt : List Int64) (ja : List Int32) (jb : List Int32) (x y : Int32) (k : dm_K) : Bool :=
  dm_hd (fun r lt => dm_hd (fun r2 lt => if r = r2 then k sc su jc rd br kd tg sy sz lt wg st nm lf rt wt ja jb else dm_in r 12 (dm_in r2 12 (if dm_f wg r.toNatClampNeg < dm_f wg r2.toNatClampNeg then dm_j42 sc su jc rd br kd tg sy sz lt wg st nm lf rt wt ja jb r r2 r2 k else dm_j42 sc su jc rd br kd tg sy sz lt wg st nm lf rt wt ja jb r r2 r k))) 13 y lt) 13 x lt
def dm_w23 (sc : Int32) (su : Int64) (jc : Int32) (rd : Int64) (br : Int32) (kd : List Int32) (tg : List Int32) (sy : List Int32) (sz : List Int32) (lt : List Int32) (wg : List Int32) (st : List Int32) (nm : List Nat) (lf : List Int32) (rt : List Int32) (wt : List Int64) (ja : List Int32) (jb : List Int32) (k : dm_K) : Bool := if jc ≤ 0 then dm_lr rd (fun r => dm_ts sc su jc (rd &&& (((1 : Int64) <<< (r.toInt64 &&& 63)) ^^^ (-1))) br kd tg sy sz lt wg st nm lf rt wt ja jb r k) 41 0
  else dm_in (jc - 1) 40 (dm_jn sc su (jc - 1) rd br kd tg sy sz lt wg st nm lf rt wt ja jb (dm_f ja (jc - 1).toNatClampNeg) (dm_f jb (jc - 1).toNatClampNeg) k)
def dm_w0 (k : dm_K) : Nat → dm_K
  | 0 => fun _ _ _ _ _ _ _ _ _ _ _ _ _ _ _ _ _ _ => false
  | n + 1 => fun sc su jc rd br kd tg sy sz lt wg st nm lf rt wt ja jb => if br = 0 then (if 0 < jc then dm_w23 sc su jc rd br kd tg sy sz lt wg st nm lf rt wt ja jb (dm_w0 k n) else if rd = 0 then k sc su jc rd br kd tg sy sz lt wg st nm lf rt wt ja jb else dm_w23 sc su jc rd br kd tg sy sz lt wg st nm lf rt wt ja jb (dm_w0 k n)) else k sc su jc rd br kd tg sy sz lt wg st nm lf rt wt ja jb
def dm_t232 (sc : Int32) (su : Int64) (jc : Int32) (rd : Int64) (br : Int32) (kd : List Int32) (tg : List Int32) (sy : List Int32) (sz : List Int32) (lt : List Int32) (wg : List Int32) (st : List Int32) (nm : List Nat) (lf : List Int32) (rt : List Int32) (wt : List Int64) (ja : List Int32) (jb : List Int32) (k : Int32 → dm_K) : Bool := dm_w0 (fun sc su jc rd br kd tg sy sz lt wg st nm lf rt wt ja jb => if br = 0 then k sc sc su jc rd br kd tg sy sz lt wg st nm lf rt wt ja jb else k (-3) sc su jc rd br kd tg sy sz lt wg st nm lf rt wt ja jb) 40 sc su jc rd br kd tg sy sz lt wg st nm lf rt wt ja jb
def dm_t204 (sc : Int32) (su : Int64) (jc : Int32) (rd : Int64) (br : Int32) (kd : List Int32) (tg : List Int32) (sy : List Int32) (sz : List Int32) (lt : List Int32) (wg : List Int32) (st : List Int32) (nm : List Nat) (lf : List Int32) (rt : List Int32) (wt : List Int64) (ja : List Int32) (jb : List Int32) (x6 z0 z1 : Int32) (k : Int32 → dm_K) : Bool := dm_in z1 40 (dm_t232 sc (su ||| ((1 : Int64) <<< (x6.toInt64 &&& 63))) jc (rd ||| ((1 : Int64) <<< (x6.toInt64 &&& 63))) br kd tg sy (dm_set 0 z0.toInt8.toInt32 z1.toNatClampNeg sz) lt wg st nm lf rt wt ja jb k)
def dm_t101b (sc : Int32) (su : Int64) (jc : Int32) (rd : Int64) (br : Int32) (kd : List Int32) (tg : List Int32) (sy : List Int32) (sz : List Int32) (lt : List Int32) (wg : List Int32) (st : List Int32) (nm : List Nat) (lf : List Int32) (rt : List Int32) (wt : List Int64) (ja : List Int32) (jb : List Int32) (s0 x1 x2 x3 x4 x5 : Int32) (c : Nat) (k : Int32 → dm_K) : Bool :=
  if x1 = 1 then dm_bn sc su jc rd br kd tg sy sz lt wg st nm lf rt wt ja jb x2 c (fun sc su jc rd br kd tg sy sz lt wg st nm lf rt wt ja jb => dm_t232 sc su jc rd br kd tg sy sz lt wg st nm lf rt wt ja jb k)
  else if x1 = 0 then dm_wn jc ja jb x2 x3 (fun jc ja jb => dm_t232 sc su jc rd br kd tg sy sz lt wg st nm lf rt wt ja jb k)
  else if x1 = 2 then dm_bc sc su jc rd br kd tg sy sz lt wg st nm lf rt wt ja jb x2 x3 x4 (fun sc su jc rd br kd tg sy sz lt wg st nm lf rt wt ja jb => dm_t232 sc su jc rd br kd tg sy sz lt wg st nm lf rt wt ja jb k)
  else if x5 = 0 then dm_t204 sc su jc rd br kd tg (dm_set 0 x3.toInt8.toInt32 s0.toNatClampNeg sy) sz lt wg st nm lf rt wt ja jb s0 x3 s0 k else dm_t204 sc su jc rd br kd tg (dm_set 0 x3.toInt8.toInt32 s0.toNatClampNeg sy) sz lt wg st nm lf rt wt ja jb s0 x4 s0 k
def dm_t101 (sc : Int32) (su : Int64) (jc : Int32) (rd : Int64) (br : Int32) (kd : List Int32) (tg : List Int32) (sy : List Int32) (sz : List Int32) (lt : List Int32) (wg : List Int32) (st : List Int32) (nm : List Nat) (lf : List Int32) (rt : List Int32) (wt : List Int64) (ja : List Int32) (jb : List Int32) (x1 x2 x3 x4 x5 : Int32) (c : Nat) (k : Int32 → dm_K) : Bool :=
  dm_in sc 40 (dm_t101b (sc + 1) su jc rd br (dm_set 0 x1.toInt8.toInt32 sc.toNatClampNeg kd) (dm_set 0 x2.toInt8.toInt32 sc.toNatClampNeg tg) sy sz lt wg st nm lf rt wt ja jb sc x1 x2 x3 x4 x5 c k)
def dm_t83 (sc : Int32) (su : Int64) (jc : Int32) (rd : Int64) (br : Int32) (kd : List Int32) (tg : List Int32) (sy : List Int32) (sz : List Int32) (lt : List Int32) (wg : List Int32) (st : List Int32) (nm : List Nat) (lf : List Int32) (rt : List Int32) (wt : List Int64) (ja : List Int32) (jb : List Int32) (x1 x2 x3 x4 z0 : Int32) (c : Nat) (k : Int32 → dm_K) : Bool :=
  if z0 = 0 then dm_t101 sc su jc rd br kd tg sy sz lt wg st nm lf rt wt ja jb x1 x2 x3 x4 z0 c k else dm_iv x4 (fun r => if r = 0 then k (-1) sc su jc rd br kd tg sy sz lt wg st nm lf rt wt ja jb else dm_t101 sc su jc rd br kd tg sy sz lt wg st nm lf rt wt ja jb x1 x2 x3 x4 z0 c k)
def dm_t57 (sc : Int32) (su : Int64) (jc : Int32) (rd : Int64) (br : Int32) (kd : List Int32) (tg : List Int32) (sy : List Int32) (sz : List Int32) (lt : List Int32) (wg : List Int32) (st : List Int32) (nm : List Nat) (lf : List Int32) (rt : List Int32) (wt : List Int64) (ja : List Int32) (jb : List Int32) (x1 x2 x3 x4 : Int32) (c : Nat) (k : Int32 → dm_K) : Bool :=
  if x1 = 2 then dm_t83 sc su jc rd br kd tg sy sz lt wg st nm lf rt wt ja jb x1 x2 x3 x4 1 c k else if x1 = 3 then dm_t83 sc su jc rd br kd tg sy sz lt wg st nm lf rt wt ja jb x1 x2 x3 x4 1 c k else if x1 = 4 then dm_t83 sc su jc rd br kd tg sy sz lt wg st nm lf rt wt ja jb x1 x2 x3 x4 1 c k
  else if x1 = 7 then dm_t83 sc su jc rd br kd tg sy sz lt wg st nm lf rt wt ja jb x1 x2 x3 x4 1 c k else dm_t83 sc su jc rd br kd tg sy sz lt wg st nm lf rt wt ja jb x1 x2 x3 x4 0 c k
def dm_tell (sc : Int32) (su : Int64) (jc : Int32) (rd : Int64) (br : Int32) (kd : List Int32) (tg : List Int32) (sy : List Int32) (sz : List Int32) (lt : List Int32) (wg : List Int32) (st : List Int32) (nm : List Nat) (lf : List Int32) (rt : List Int32) (wt : List Int64) (ja : List Int32) (jb : List Int32) (x1 x2 x3 x4 : Int32) (c : Nat) (k : Int32 → dm_K) : Bool :=
  if br = 0 then (if sc < 40 then (if x1 < 0 then k (-1) sc su jc rd br kd tg sy sz lt wg st nm lf rt wt ja jb else if 7 < x1 then k (-1) sc su jc rd br kd tg sy sz lt wg st nm lf rt wt ja jb else dm_iv x2 (fun r => if r = 0 then k (-1) sc su jc rd br kd tg sy sz lt wg st nm lf rt wt ja jb
    else if x1 = 1 then dm_t57 sc su jc rd br kd tg sy sz lt wg st nm lf rt wt ja jb x1 x2 x3 x4 c k else dm_iv x3 (fun r => if r = 0 then k (-1) sc su jc rd br kd tg sy sz lt wg st nm lf rt wt ja jb else dm_t57 sc su jc rd br kd tg sy sz lt wg st nm lf rt wt ja jb x1 x2 x3 x4 c k))) else k (-2) sc su jc rd br kd tg sy sz lt wg st nm lf rt wt ja jb) else k (-3) sc su jc rd br kd tg sy sz lt wg st nm lf rt wt ja jb
def dm_wa (sc : Int32) (su : Int64) (k : Int32 → Bool) : Nat → Int32 → Int32 → Bool
  | 0 => fun _ _ => false
  | n + 1 => fun x1 x2 => if sc ≤ x2 then k x1 else dm_wa sc su k n (x1 + ((((su.toUInt64 >>> (x2.toInt64.toUInt64 &&& Int64.toUInt64 63)).toInt64) &&& 1).toInt32)) (x2 + 1)
def dm_wait (sc : Int32) (su : Int64) (jc : Int32) (rd : Int64) (br : Int32) (kd : List Int32) (tg : List Int32) (sy : List Int32) (sz : List Int32) (lt : List Int32) (wg : List Int32) (st : List Int32) (nm : List Nat) (lf : List Int32) (rt : List Int32) (wt : List Int64) (ja : List Int32) (jb : List Int32) (k : Int32 → Bool) : Bool := if br = 0 then dm_wa sc su k 42 0 0 else k (-3)
def dm_lk (sc : Int32) (su : Int64) (jc : Int32) (rd : Int64) (br : Int32) (kd : List Int32) (tg : List Int32) (sy : List Int32) (sz : List Int32) (lt : List Int32) (wg : List Int32) (st : List Int32) (nm : List Nat) (lf : List Int32) (rt : List Int32) (wt : List Int64) (ja : List Int32) (jb : List Int32) (x y : Int32) (k : Int32 → dm_K) : Bool :=
  dm_iv x (fun r => if r = 0 then k 0 sc su jc rd br kd tg sy sz lt wg st nm lf rt wt ja jb else dm_iv y (fun r => if r = 0 then k 0 sc su jc rd br kd tg sy sz lt wg st nm lf rt wt ja jb else if br = 0 then
    dm_hd (fun r lt => dm_hd (fun r2 lt => if r = r2 then k 1 sc su jc rd br kd tg sy sz lt wg st nm lf rt wt ja jb else k 0 sc su jc rd br kd tg sy sz lt wg st nm lf rt wt ja jb) 13 y lt) 13 x lt else k 0 sc su jc rd br kd tg sy sz lt wg st nm lf rt wt ja jb))
def dm_st (sc : Int32) (su : Int64) (jc : Int32) (rd : Int64) (br : Int32) (kd : List Int32) (tg : List Int32) (sy : List Int32) (sz : List Int32) (lt : List Int32) (wg : List Int32) (st : List Int32) (nm : List Nat) (lf : List Int32) (rt : List Int32) (wt : List Int64) (ja : List Int32) (jb : List Int32) (x : Int32) (k : Int32 → dm_K) : Bool :=
  if br = 0 then dm_iv x (fun r => if r = 0 then k (-1) sc su jc rd br kd tg sy sz lt wg st nm lf rt wt ja jb else dm_hd (fun r lt => dm_in r 12 (k (dm_f st r.toNatClampNeg) sc su jc rd br kd tg sy sz lt wg st nm lf rt wt ja jb)) 13 x lt) else k (-3) sc su jc rd br kd tg sy sz lt wg st nm lf rt wt ja jb
def dm_val (sc : Int32) (su : Int64) (jc : Int32) (rd : Int64) (br : Int32) (kd : List Int32) (tg : List Int32) (sy : List Int32) (sz : List Int32) (lt : List Int32) (wg : List Int32) (st : List Int32) (nm : List Nat) (lf : List Int32) (rt : List Int32) (wt : List Int64) (ja : List Int32) (jb : List Int32) (x : Int32) (k : Nat → dm_K) : Bool :=
  dm_iv x (fun r => if r = 0 then k 0 sc su jc rd br kd tg sy sz lt wg st nm lf rt wt ja jb else if br = 0 then dm_hd (fun r lt => dm_in r 12 (if dm_f st r.toNatClampNeg = 1 then k (dm_get 0 r.toNatClampNeg nm) sc su jc rd br kd tg sy sz lt wg st nm lf rt wt ja jb else k 0 sc su jc rd br kd tg sy sz lt wg st nm lf rt wt ja jb)) 13 x lt else k 0 sc su jc rd br kd tg sy sz lt wg st nm lf rt wt ja jb)
def dm_cl (lt : List Int32) (k : Int32 → Bool) : Nat → Int32 → Int32 → Bool
  | 0 => fun _ _ => false
  | n + 1 => fun x1 x2 => if 12 ≤ x2 then k x1 else dm_in x2 12 (if dm_f lt x2.toNatClampNeg = x2 then dm_cl lt k n (x1 + 1) (x2 + 1) else dm_cl lt k n x1 (x2 + 1))
def dm_cls (sc : Int32) (su : Int64) (jc : Int32) (rd : Int64) (br : Int32) (kd : List Int32) (tg : List Int32) (sy : List Int32) (sz : List Int32) (lt : List Int32) (wg : List Int32) (st : List Int32) (nm : List Nat) (lf : List Int32) (rt : List Int32) (wt : List Int64) (ja : List Int32) (jb : List Int32) (k : Int32 → Bool) : Bool := if br = 0 then dm_cl lt k 14 0 0 else k (-3)
def dm_p72 (x4 : Int32) (k : Int32 → List Int32 → Bool) : Nat → Int32 → List Int32 → Bool
  | 0 => fun _ _ => false
  | n + 1 => fun x5 lt => dm_hd (fun r lt => if r = x4 then k x5 lt else dm_p72 x4 k n (x5 + 1) lt) 13 x5 lt
def dm_p64 (sc : Int32) (su : Int64) (jc : Int32) (rd : Int64) (br : Int32) (kd : List Int32) (tg : List Int32) (sy : List Int32) (sz : List Int32) (lt : List Int32) (wg : List Int32) (st : List Int32) (nm : List Nat) (lf : List Int32) (rt : List Int32) (wt : List Int64) (ja : List Int32) (jb : List Int32) (z0 : Int32) (k : Int32 → dm_K) : Bool := dm_hd (fun r lt => dm_p72 r (fun x lt => k x sc su jc rd br kd tg sy sz lt wg st nm lf rt wt ja jb) 13 0 lt) 13 z0 lt
def dm_pt (sc : Int32) (su : Int64) (jc : Int32) (rd : Int64) (br : Int32) (kd : List Int32) (tg : List Int32) (sy : List Int32) (sz : List Int32) (lt : List Int32) (wg : List Int32) (st : List Int32) (nm : List Nat) (lf : List Int32) (rt : List Int32) (wt : List Int64) (ja : List Int32) (jb : List Int32) (x p : Int32) (k : Int32 → dm_K) : Bool :=
  dm_iv x (fun r => if r = 0 then k (-1) sc su jc rd br kd tg sy sz lt wg st nm lf rt wt ja jb else if br = 0 then (if p < 0 then k (-1) sc su jc rd br kd tg sy sz lt wg st nm lf rt wt ja jb else if p ≤ 1 then
    dm_hd (fun r lt => dm_in r 12 (if dm_f st r.toNatClampNeg = 2 then (if p = 0 then dm_p64 sc su jc rd br kd tg sy sz lt wg st nm lf rt wt ja jb (dm_f lf r.toNatClampNeg) k else dm_p64 sc su jc rd br kd tg sy sz lt wg st nm lf rt wt ja jb (dm_f rt r.toNatClampNeg) k) else k (-1) sc su jc rd br kd tg sy sz lt wg st nm lf rt wt ja jb)) 13 x lt
    else k (-1) sc su jc rd br kd tg sy sz lt wg st nm lf rt wt ja jb) else k (-1) sc su jc rd br kd tg sy sz lt wg st nm lf rt wt ja jb)
def dm_clr (sc : Int32) (su : Int64) (jc : Int32) (rd : Int64) (br : Int32) (kd : List Int32) (tg : List Int32) (sy : List Int32) (sz : List Int32) (lt : List Int32) (wg : List Int32) (st : List Int32) (nm : List Nat) (lf : List Int32) (rt : List Int32) (wt : List Int64) (ja : List Int32) (jb : List Int32) (k : Int32 → dm_K) : Bool := dm_rs (fun lt wg st wt => k sc 0 0 0 0 0 kd tg sy sz lt wg st nm lf rt wt ja jb) 14 0 lt wg st wt
end
section
theorem dm_gi {i : Int32} {n : Nat} {a : Bool} {A : Prop} (h : dm_in i n a = true) (f : vp_in i n → a = true → A) : A := (dm_gd h f).2
theorem dm_fb {l : List Int32} {k : Nat} {v : Int32} : upd (dm_f l) k (vp_nar .byte v) = dm_f (dm_set 0 v.toInt8.toInt32 k l) := by
  rw [vp_nar_byte]
  exact dm_fu
theorem dm_no {A : Prop} {b : Bool} (h : b = true) (e : b = false) : A := by
  rw [e] at h
  exact absurd h (by decide)
section
variable {env : Nat → Int32}
theorem dm_rs_1 {post : St2 → Prop} {sc : Int32} {su : Int64} {jc : Int32} {rd : Int64} {br : Int32} {kd : List Int32} {tg : List Int32} {sy : List Int32} {sz : List Int32} {nm : List Nat} {lf : List Int32} {rt : List Int32} {ja : List Int32} {jb : List Int32} {k : List Int32 → List Int32 → List Int32 → List Int64 → Bool}
    (H : ∀ (lt wg st : List Int32) (wt : List Int64), k lt wg st wt = true → post (sc, su, jc, rd, br, dm_f kd, dm_f tg, dm_f sy, dm_f sz, dm_f lt, dm_f wg, dm_f st, dm_n env nm, dm_f lf, dm_f rt, dm_l wt, dm_f ja, dm_f jb)) :
    ∀ (n : Nat) (x : Int32) (lt wg st : List Int32) (wt : List Int64), dm_rs k n x lt wg st wt = true → wX_restart_27 post sc su jc rd br n x (dm_f kd) (dm_f tg) (dm_f sy) (dm_f sz) (dm_f lt) (dm_f wg) (dm_f st) (dm_n env nm) (dm_f lf) (dm_f rt) (dm_l wt) (dm_f ja) (dm_f jb) := by
  intro n
  induction n with
  | zero =>
    intro x lt wg st wt h
    exact dm_no h rfl
  | succ n ih =>
    intro x lt wg st wt h
    exact dm_if h (fun h => H _ _ _ _ h) (fun h => dm_gd h (fun hi h => nm_r dm_fu ⟨hi, nm_r dm_fu ⟨hi, nm_r dm_fu ⟨hi, nm_r dm_lu (nm_e (ih _ _ _ _ _ h))⟩⟩⟩))
theorem dm_rs_ok {post : St2 → Prop} {sc : Int32} {su : Int64} {jc : Int32} {rd : Int64} {br : Int32} {kd : List Int32} {tg : List Int32} {sy : List Int32} {sz : List Int32} {lt : List Int32} {wg : List Int32} {st : List Int32} {nm : List Nat} {lf : List Int32} {rt : List Int32} {wt : List Int64} {ja : List Int32} {jb : List Int32} {k : List Int32 → List Int32 → List Int32 → List Int64 → Bool} (h : dm_rs k 14 0 lt wg st wt = true)
    (H : ∀ (lt wg st : List Int32) (wt : List Int64), k lt wg st wt = true → post (0, 0, 0, 0, 0, dm_f kd, dm_f tg, dm_f sy, dm_f sz, dm_f lt, dm_f wg, dm_f st, dm_n env nm, dm_f lf, dm_f rt, dm_l wt, dm_f ja, dm_f jb)) : wpX_restart post (sc, su, jc, rd, br, dm_f kd, dm_f tg, dm_f sy, dm_f sz, dm_f lt, dm_f wg, dm_f st, dm_n env nm, dm_f lf, dm_f rt, dm_l wt, dm_f ja, dm_f jb) :=
  ⟨14, dm_rs_1 H 14 0 lt wg st wt h⟩
theorem dm_iv_ok {post : Int32 → Prop} {sc : Int32} {su : Int64} {jc : Int32} {rd : Int64} {br : Int32} {kd : List Int32} {tg : List Int32} {sy : List Int32} {sz : List Int32} {lt : List Int32} {wg : List Int32} {st : List Int32} {nm : List Nat} {lf : List Int32} {rt : List Int32} {wt : List Int64} {ja : List Int32} {jb : List Int32} {x : Int32} {k : Int32 → Bool} (h : dm_iv x k = true) (H : ∀ r : Int32, k r = true → post r) : wpX_isVariable post (sc, su, jc, rd, br, dm_f kd, dm_f tg, dm_f sy, dm_f sz, dm_f lt, dm_f wg, dm_f st, dm_n env nm, dm_f lf, dm_f rt, dm_l wt, dm_f ja, dm_f jb) x :=
  dm_if h (fun h => H _ h) (fun h => dm_if h (fun h => H _ h) (fun h => H _ h))
theorem dm_lr_1 {post : Int32 → Prop} {sc : Int32} {su : Int64} {jc : Int32} {rd : Int64} {br : Int32} {kd : List Int32} {tg : List Int32} {sy : List Int32} {sz : List Int32} {lt : List Int32} {wg : List Int32} {st : List Int32} {nm : List Nat} {lf : List Int32} {rt : List Int32} {wt : List Int64} {ja : List Int32} {jb : List Int32} {k : Int32 → Bool} (H : ∀ r : Int32, k r = true → post r) :
    ∀ (n : Nat) (x : Int32), dm_lr rd k n x = true → wX_lowestReady_2 post sc su jc rd br (dm_f kd) (dm_f tg) (dm_f sy) (dm_f sz) (dm_f lt) (dm_f wg) (dm_f st) (dm_n env nm) (dm_f lf) (dm_f rt) (dm_l wt) (dm_f ja) (dm_f jb) n x := by
  intro n
  induction n with
  | zero =>
    intro x h
    exact dm_no h rfl
  | succ n ih =>
    intro x h
    exact dm_if h (fun h => H _ h) (fun h => dm_if h (fun h => nm_e (ih _ h)) (fun h => H _ h))
theorem dm_lr_ok {post : Int32 → Prop} {sc : Int32} {su : Int64} {jc : Int32} {rd : Int64} {br : Int32} {kd : List Int32} {tg : List Int32} {sy : List Int32} {sz : List Int32} {lt : List Int32} {wg : List Int32} {st : List Int32} {nm : List Nat} {lf : List Int32} {rt : List Int32} {wt : List Int64} {ja : List Int32} {jb : List Int32} {k : Int32 → Bool} (h : dm_lr rd k 41 0 = true) (H : ∀ r : Int32, k r = true → post r) : wpX_lowestReady post (sc, su, jc, rd, br, dm_f kd, dm_f tg, dm_f sy, dm_f sz, dm_f lt, dm_f wg, dm_f st, dm_n env nm, dm_f lf, dm_f rt, dm_l wt, dm_f ja, dm_f jb) :=
  ⟨41, dm_lr_1 H 41 0 h⟩
theorem dm_hd_1 {post : Int32 → St2 → Prop} {sc : Int32} {su : Int64} {jc : Int32} {rd : Int64} {br : Int32} {kd : List Int32} {tg : List Int32} {sy : List Int32} {sz : List Int32} {wg : List Int32} {st : List Int32} {nm : List Nat} {lf : List Int32} {rt : List Int32} {wt : List Int64} {ja : List Int32} {jb : List Int32} {k : Int32 → List Int32 → Bool} (H : ∀ (r : Int32) (lt : List Int32), k r lt = true → post r (sc, su, jc, rd, br, dm_f kd, dm_f tg, dm_f sy, dm_f sz, dm_f lt, dm_f wg, dm_f st, dm_n env nm, dm_f lf, dm_f rt, dm_l wt, dm_f ja, dm_f jb)) :
    ∀ (n : Nat) (x : Int32) (lt : List Int32), dm_hd k n x lt = true → wX_head_2 post sc su jc rd br n x (dm_f kd) (dm_f tg) (dm_f sy) (dm_f sz) (dm_f lt) (dm_f wg) (dm_f st) (dm_n env nm) (dm_f lf) (dm_f rt) (dm_l wt) (dm_f ja) (dm_f jb) := by
  intro n
  induction n with
  | zero =>
    intro x lt h
    exact dm_no h rfl
  | succ n ih =>
    intro x lt h
    exact dm_gd h (fun hi h => dm_if h (fun h => H _ _ h) (fun h => ⟨hi, dm_gd h (fun hj h => ⟨hi, nm_r dm_fb ⟨hi, nm_e (ih _ _ h)⟩⟩)⟩))
theorem dm_hd_ok {post : Int32 → St2 → Prop} {sc : Int32} {su : Int64} {jc : Int32} {rd : Int64} {br : Int32} {kd : List Int32} {tg : List Int32} {sy : List Int32} {sz : List Int32} {lt : List Int32} {wg : List Int32} {st : List Int32} {nm : List Nat} {lf : List Int32} {rt : List Int32} {wt : List Int64} {ja : List Int32} {jb : List Int32} {x : Int32} {k : Int32 → List Int32 → Bool} (h : dm_hd k 13 x lt = true) (H : ∀ (r : Int32) (lt : List Int32), k r lt = true → post r (sc, su, jc, rd, br, dm_f kd, dm_f tg, dm_f sy, dm_f sz, dm_f lt, dm_f wg, dm_f st, dm_n env nm, dm_f lf, dm_f rt, dm_l wt, dm_f ja, dm_f jb)) :
    wpX_head post (sc, su, jc, rd, br, dm_f kd, dm_f tg, dm_f sy, dm_f sz, dm_f lt, dm_f wg, dm_f st, dm_n env nm, dm_f lf, dm_f rt, dm_l wt, dm_f ja, dm_f jb) x := ⟨13, dm_hd_1 H 13 x lt h⟩
theorem dm_hd_3 {post : Int32 → St2 → Prop} {sc : Int32} {su : Int64} {jc : Int32} {rd : Int64} {br : Int32} {kd : List Int32} {tg : List Int32} {sy : List Int32} {sz : List Int32} {wg : List Int32} {st : List Int32} {nm : List Nat} {lf : List Int32} {rt : List Int32} {wt : List Int64} {ja : List Int32} {jb : List Int32} {k : Int32 → List Int32 → Bool} (H : ∀ (r : Int32) (lt : List Int32), k r lt = true → post r (sc, su, jc, rd, br, dm_f kd, dm_f tg, dm_f sy, dm_f sz, dm_f lt, dm_f wg, dm_f st, dm_n env nm, dm_f lf, dm_f rt, dm_l wt, dm_f ja, dm_f jb)) :
    ∀ (n : Nat) (x : Int32) (lt : List Int32), dm_hd k n x lt = true → wX_head_2_2 post sc su jc rd br n x (dm_f kd) (dm_f tg) (dm_f sy) (dm_f sz) (dm_f lt) (dm_f wg) (dm_f st) (dm_n env nm) (dm_f lf) (dm_f rt) (dm_l wt) (dm_f ja) (dm_f jb) := by
  intro n
  induction n with
  | zero =>
    intro x lt h
    exact dm_no h rfl
  | succ n ih =>
    intro x lt h
    exact dm_gd h (fun hi h => dm_if h (fun h => H _ _ h) (fun h => ⟨hi, dm_gd h (fun hj h => ⟨hi, nm_r dm_fb ⟨hi, nm_e (ih _ _ h)⟩⟩)⟩))
theorem dm_hd2_ok {post : Int32 → St2 → Prop} {sc : Int32} {su : Int64} {jc : Int32} {rd : Int64} {br : Int32} {kd : List Int32} {tg : List Int32} {sy : List Int32} {sz : List Int32} {lt : List Int32} {wg : List Int32} {st : List Int32} {nm : List Nat} {lf : List Int32} {rt : List Int32} {wt : List Int64} {ja : List Int32} {jb : List Int32} {x : Int32} {k : Int32 → List Int32 → Bool} (h : dm_hd k 13 x lt = true) (H : ∀ (r : Int32) (lt : List Int32), k r lt = true → post r (sc, su, jc, rd, br, dm_f kd, dm_f tg, dm_f sy, dm_f sz, dm_f lt, dm_f wg, dm_f st, dm_n env nm, dm_f lf, dm_f rt, dm_l wt, dm_f ja, dm_f jb)) :
    wpX_head_2 post (sc, su, jc, rd, br, dm_f kd, dm_f tg, dm_f sy, dm_f sz, dm_f lt, dm_f wg, dm_f st, dm_n env nm, dm_f lf, dm_f rt, dm_l wt, dm_f ja, dm_f jb) x := ⟨13, dm_hd_3 H 13 x lt h⟩
theorem dm_cp_ok (he : env 4 = env 1 + env 2) {post : Int32 → Prop} {sc : Int32} {su : Int64} {jc : Int32} {rd : Int64} {br : Int32} {kd : List Int32} {tg : List Int32} {sy : List Int32} {sz : List Int32} {lt : List Int32} {wg : List Int32} {st : List Int32} {nm : List Nat} {lf : List Int32} {rt : List Int32} {wt : List Int64} {ja : List Int32} {jb : List Int32} {op : Int32} {c d : Nat} {k : Nat → Bool} (h : dm_cp op c d k = true) (H : ∀ e : Nat, k e = true → post (env e)) :
    wpX_computed post (sc, su, jc, rd, br, dm_f kd, dm_f tg, dm_f sy, dm_f sz, dm_f lt, dm_f wg, dm_f st, dm_n env nm, dm_f lf, dm_f rt, dm_l wt, dm_f ja, dm_f jb) op (env c) (env d) := by
  refine dm_if h (fun h => ?_) (fun h => dm_no h rfl)
  by_cases g : c = 1 ∧ d = 2
  · rw [if_pos g] at h
    rw [g.1, g.2, ← he]
    exact H 4 h
  · rw [if_neg g] at h
    exact dm_no h rfl
theorem dm_wk_ok {post : St2 → Prop} {sc : Int32} {su : Int64} {jc : Int32} {rd : Int64} {br : Int32} {kd : List Int32} {tg : List Int32} {sy : List Int32} {sz : List Int32} {lt : List Int32} {wg : List Int32} {st : List Int32} {nm : List Nat} {lf : List Int32} {rt : List Int32} {wt : List Int64} {ja : List Int32} {jb : List Int32} {x : Int32} {k : Int64 → List Int64 → Bool} (h : dm_wk su rd wt x k = true) (H : ∀ (rd : Int64) (wt : List Int64), k rd wt = true → post (sc, su, jc, rd, br, dm_f kd, dm_f tg, dm_f sy, dm_f sz, dm_f lt, dm_f wg, dm_f st, dm_n env nm, dm_f lf, dm_f rt, dm_l wt, dm_f ja, dm_f jb)) :
    wpX_wake post (sc, su, jc, rd, br, dm_f kd, dm_f tg, dm_f sy, dm_f sz, dm_f lt, dm_f wg, dm_f st, dm_n env nm, dm_f lf, dm_f rt, dm_l wt, dm_f ja, dm_f jb) x := dm_gd h (fun hi h => nm_e ⟨hi, nm_r dm_lu (H _ _ h)⟩)
theorem dm_bn_ok (hn : ¬ env 3 = env 2) {post : St2 → Prop} {sc : Int32} {su : Int64} {jc : Int32} {rd : Int64} {br : Int32} {kd : List Int32} {tg : List Int32} {sy : List Int32} {sz : List Int32} {lt : List Int32} {wg : List Int32} {st : List Int32} {nm : List Nat} {lf : List Int32} {rt : List Int32} {wt : List Int64} {ja : List Int32} {jb : List Int32} {x : Int32} {c : Nat} {k : dm_K} (h : dm_bn sc su jc rd br kd tg sy sz lt wg st nm lf rt wt ja jb x c k = true) (H : ∀ {sc : Int32} {su : Int64} {jc : Int32} {rd : Int64} {br : Int32} {kd : List Int32} {tg : List Int32} {sy : List Int32} {sz : List Int32} {lt : List Int32} {wg : List Int32} {st : List Int32} {nm : List Nat} {lf : List Int32} {rt : List Int32} {wt : List Int64} {ja : List Int32} {jb : List Int32}, k sc su jc rd br kd tg sy sz lt wg st nm lf rt wt ja jb = true → post (sc, su, jc, rd, br, dm_f kd, dm_f tg, dm_f sy, dm_f sz, dm_f lt, dm_f wg, dm_f st, dm_n env nm, dm_f lf, dm_f rt, dm_l wt, dm_f ja, dm_f jb)) :
    wpX_bindNumber post (sc, su, jc, rd, br, dm_f kd, dm_f tg, dm_f sy, dm_f sz, dm_f lt, dm_f wg, dm_f st, dm_n env nm, dm_f lf, dm_f rt, dm_l wt, dm_f ja, dm_f jb) x (env c) := by
  unfold dm_bn at h
  unfold wpX_bindNumber
  exact dm_hd_ok h (fun r lt h => dm_gd h (fun hi h => dm_if h
    (fun h => ⟨hi, nm_r dm_fu ⟨hi, nm_r dm_nu (dm_wk_ok h (fun rd wt h => H h))⟩⟩)
    (fun h => ⟨hi, dm_if h (fun h => H h) (fun h => ⟨hi, dm_cmp_ok hn h (fun h => H h) (fun h => H h)⟩)⟩)))
theorem dm_wn_ok {post : St2 → Prop} {sc : Int32} {su : Int64} {jc : Int32} {rd : Int64} {br : Int32} {kd : List Int32} {tg : List Int32} {sy : List Int32} {sz : List Int32} {lt : List Int32} {wg : List Int32} {st : List Int32} {nm : List Nat} {lf : List Int32} {rt : List Int32} {wt : List Int64} {ja : List Int32} {jb : List Int32} {x y : Int32} {k : Int32 → List Int32 → List Int32 → Bool} (h : dm_wn jc ja jb x y k = true) (H : ∀ (jc : Int32) (ja jb : List Int32), k jc ja jb = true → post (sc, su, jc, rd, br, dm_f kd, dm_f tg, dm_f sy, dm_f sz, dm_f lt, dm_f wg, dm_f st, dm_n env nm, dm_f lf, dm_f rt, dm_l wt, dm_f ja, dm_f jb)) :
    wpX_want post (sc, su, jc, rd, br, dm_f kd, dm_f tg, dm_f sy, dm_f sz, dm_f lt, dm_f wg, dm_f st, dm_n env nm, dm_f lf, dm_f rt, dm_l wt, dm_f ja, dm_f jb) x y := dm_gd h (fun hi h => nm_r dm_fu ⟨hi, nm_r dm_fu (nm_e (H _ _ _ h))⟩)
theorem dm_t98_ok {post : St2 → Prop} {sc : Int32} {su : Int64} {jc : Int32} {rd : Int64} {br : Int32} {kd : List Int32} {tg : List Int32} {sy : List Int32} {sz : List Int32} {lt : List Int32} {wg : List Int32} {st : List Int32} {nm : List Nat} {lf : List Int32} {rt : List Int32} {wt : List Int64} {ja : List Int32} {jb : List Int32} {x1 z0 : Int32} {k : dm_K} (h : dm_t98 sc su jc rd br kd tg sy sz lt wg st nm lf rt wt ja jb x1 z0 k = true) (H : ∀ {sc : Int32} {su : Int64} {jc : Int32} {rd : Int64} {br : Int32} {kd : List Int32} {tg : List Int32} {sy : List Int32} {sz : List Int32} {lt : List Int32} {wg : List Int32} {st : List Int32} {nm : List Nat} {lf : List Int32} {rt : List Int32} {wt : List Int64} {ja : List Int32} {jb : List Int32}, k sc su jc rd br kd tg sy sz lt wg st nm lf rt wt ja jb = true → post (sc, su, jc, rd, br, dm_f kd, dm_f tg, dm_f sy, dm_f sz, dm_f lt, dm_f wg, dm_f st, dm_n env nm, dm_f lf, dm_f rt, dm_l wt, dm_f ja, dm_f jb)) :
    wX_tryStatement_98 post x1 z0 sc su jc rd br (dm_f kd) (dm_f tg) (dm_f sy) (dm_f sz) (dm_f lt) (dm_f wg) (dm_f st) (dm_n env nm) (dm_f lf) (dm_f rt) (dm_l wt) (dm_f ja) (dm_f jb) := dm_gd h (fun hi h => ⟨hi, nm_r dm_lu (H h)⟩)
theorem dm_t80_ok {post : St2 → Prop} {sc : Int32} {su : Int64} {jc : Int32} {rd : Int64} {br : Int32} {kd : List Int32} {tg : List Int32} {sy : List Int32} {sz : List Int32} {lt : List Int32} {wg : List Int32} {st : List Int32} {nm : List Nat} {lf : List Int32} {rt : List Int32} {wt : List Int64} {ja : List Int32} {jb : List Int32} {x1 x2 x3 : Int32} {k : dm_K} (h : dm_t80 sc su jc rd br kd tg sy sz lt wg st nm lf rt wt ja jb x1 x2 x3 k = true) (H : ∀ {sc : Int32} {su : Int64} {jc : Int32} {rd : Int64} {br : Int32} {kd : List Int32} {tg : List Int32} {sy : List Int32} {sz : List Int32} {lt : List Int32} {wg : List Int32} {st : List Int32} {nm : List Nat} {lf : List Int32} {rt : List Int32} {wt : List Int64} {ja : List Int32} {jb : List Int32}, k sc su jc rd br kd tg sy sz lt wg st nm lf rt wt ja jb = true → post (sc, su, jc, rd, br, dm_f kd, dm_f tg, dm_f sy, dm_f sz, dm_f lt, dm_f wg, dm_f st, dm_n env nm, dm_f lf, dm_f rt, dm_l wt, dm_f ja, dm_f jb)) :
    wX_tryStatement_80 post x1 x2 x3 sc su jc rd br (dm_f kd) (dm_f tg) (dm_f sy) (dm_f sz) (dm_f lt) (dm_f wg) (dm_f st) (dm_n env nm) (dm_f lf) (dm_f rt) (dm_l wt) (dm_f ja) (dm_f jb) := dm_gd h (fun hi h => dm_if h (fun h => dm_t98_ok h H) (fun h => dm_t98_ok h H))
theorem dm_t182_ok {post : St2 → Prop} {sc : Int32} {su : Int64} {jc : Int32} {rd : Int64} {br : Int32} {kd : List Int32} {tg : List Int32} {sy : List Int32} {sz : List Int32} {lt : List Int32} {wg : List Int32} {st : List Int32} {nm : List Nat} {lf : List Int32} {rt : List Int32} {wt : List Int64} {ja : List Int32} {jb : List Int32} {z0 z1 : Int32} {k : dm_K} (h : dm_t182 sc su jc rd br kd tg sy sz lt wg st nm lf rt wt ja jb z0 z1 k = true) (H : ∀ {sc : Int32} {su : Int64} {jc : Int32} {rd : Int64} {br : Int32} {kd : List Int32} {tg : List Int32} {sy : List Int32} {sz : List Int32} {lt : List Int32} {wg : List Int32} {st : List Int32} {nm : List Nat} {lf : List Int32} {rt : List Int32} {wt : List Int64} {ja : List Int32} {jb : List Int32}, k sc su jc rd br kd tg sy sz lt wg st nm lf rt wt ja jb = true → post (sc, su, jc, rd, br, dm_f kd, dm_f tg, dm_f sy, dm_f sz, dm_f lt, dm_f wg, dm_f st, dm_n env nm, dm_f lf, dm_f rt, dm_l wt, dm_f ja, dm_f jb)) :
    wX_tryStatement_182 post z0 z1 sc su jc rd br (dm_f kd) (dm_f tg) (dm_f sy) (dm_f sz) (dm_f lt) (dm_f wg) (dm_f st) (dm_n env nm) (dm_f lf) (dm_f rt) (dm_l wt) (dm_f ja) (dm_f jb) := by
  unfold dm_t182 at h
  unfold wX_tryStatement_182
  exact dm_wn_ok h (fun jc ja jb h => H h)
theorem dm_t60_ok (he : env 4 = env 1 + env 2) (hn : ¬ env 3 = env 2) {post : St2 → Prop} {sc : Int32} {su : Int64} {jc : Int32} {rd : Int64} {br : Int32} {kd : List Int32} {tg : List Int32} {sy : List Int32} {sz : List Int32} {lt : List Int32} {wg : List Int32} {st : List Int32} {nm : List Nat} {lf : List Int32} {rt : List Int32} {wt : List Int64} {ja : List Int32} {jb : List Int32} {x1 x2 x3 x4 z0 : Int32} {k : dm_K} (h : dm_t60 sc su jc rd br kd tg sy sz lt wg st nm lf rt wt ja jb x1 x2 x3 x4 z0 k = true) (H : ∀ {sc : Int32} {su : Int64} {jc : Int32} {rd : Int64} {br : Int32} {kd : List Int32} {tg : List Int32} {sy : List Int32} {sz : List Int32} {lt : List Int32} {wg : List Int32} {st : List Int32} {nm : List Nat} {lf : List Int32} {rt : List Int32} {wt : List Int64} {ja : List Int32} {jb : List Int32}, k sc su jc rd br kd tg sy sz lt wg st nm lf rt wt ja jb = true → post (sc, su, jc, rd, br, dm_f kd, dm_f tg, dm_f sy, dm_f sz, dm_f lt, dm_f wg, dm_f st, dm_n env nm, dm_f lf, dm_f rt, dm_l wt, dm_f ja, dm_f jb)) :
    wX_tryStatement_60 post x1 x2 x3 x4 z0 sc su jc rd br (dm_f kd) (dm_f tg) (dm_f sy) (dm_f sz) (dm_f lt) (dm_f wg) (dm_f st) (dm_n env nm) (dm_f lf) (dm_f rt) (dm_l wt) (dm_f ja) (dm_f jb) := by
  unfold dm_t60 at h
  unfold wX_tryStatement_60
  refine dm_gd h (fun h2 h => dm_if h (fun h => dm_t80_ok h H) (fun h => dm_gd h (fun h3 h => dm_if h (fun h => dm_t80_ok h H) (fun h => ⟨h2, dm_if h (fun h => ⟨h3, dm_if h (fun h => ?_) (fun h => H h)⟩) (fun h => H h)⟩))))
  refine nm_e ?_
  refine dm_gi h (fun h1 h => dm_if h (fun h => ⟨h1, h2, h3, ?_⟩) (fun h => ⟨h1, h1, dm_if h (fun h => ⟨h2, dm_t182_ok h H⟩) (fun h => ⟨h2, dm_t182_ok h H⟩)⟩))
  exact dm_cp_ok he h (fun e h => ⟨h1, dm_bn_ok hn h H⟩)
theorem dm_t48_ok (he : env 4 = env 1 + env 2) (hn : ¬ env 3 = env 2) {post : St2 → Prop} {sc : Int32} {su : Int64} {jc : Int32} {rd : Int64} {br : Int32} {kd : List Int32} {tg : List Int32} {sy : List Int32} {sz : List Int32} {lt : List Int32} {wg : List Int32} {st : List Int32} {nm : List Nat} {lf : List Int32} {rt : List Int32} {wt : List Int64} {ja : List Int32} {jb : List Int32} {x1 x2 x3 z0 : Int32} {k : dm_K} (h : dm_t48 sc su jc rd br kd tg sy sz lt wg st nm lf rt wt ja jb x1 x2 x3 z0 k = true) (H : ∀ {sc : Int32} {su : Int64} {jc : Int32} {rd : Int64} {br : Int32} {kd : List Int32} {tg : List Int32} {sy : List Int32} {sz : List Int32} {lt : List Int32} {wg : List Int32} {st : List Int32} {nm : List Nat} {lf : List Int32} {rt : List Int32} {wt : List Int64} {ja : List Int32} {jb : List Int32}, k sc su jc rd br kd tg sy sz lt wg st nm lf rt wt ja jb = true → post (sc, su, jc, rd, br, dm_f kd, dm_f tg, dm_f sy, dm_f sz, dm_f lt, dm_f wg, dm_f st, dm_n env nm, dm_f lf, dm_f rt, dm_l wt, dm_f ja, dm_f jb)) :
    wX_tryStatement_48 post x1 x2 x3 z0 sc su jc rd br (dm_f kd) (dm_f tg) (dm_f sy) (dm_f sz) (dm_f lt) (dm_f wg) (dm_f st) (dm_n env nm) (dm_f lf) (dm_f rt) (dm_l wt) (dm_f ja) (dm_f jb) := dm_if h (fun h => dm_t60_ok he hn h H) (fun h => dm_t60_ok he hn h H)
theorem dm_ts_ok (he : env 4 = env 1 + env 2) (hn : ¬ env 3 = env 2) {post : St2 → Prop} {sc : Int32} {su : Int64} {jc : Int32} {rd : Int64} {br : Int32} {kd : List Int32} {tg : List Int32} {sy : List Int32} {sz : List Int32} {lt : List Int32} {wg : List Int32} {st : List Int32} {nm : List Nat} {lf : List Int32} {rt : List Int32} {wt : List Int64} {ja : List Int32} {jb : List Int32} {x : Int32} {k : dm_K} (h : dm_ts sc su jc rd br kd tg sy sz lt wg st nm lf rt wt ja jb x k = true) (H : ∀ {sc : Int32} {su : Int64} {jc : Int32} {rd : Int64} {br : Int32} {kd : List Int32} {tg : List Int32} {sy : List Int32} {sz : List Int32} {lt : List Int32} {wg : List Int32} {st : List Int32} {nm : List Nat} {lf : List Int32} {rt : List Int32} {wt : List Int64} {ja : List Int32} {jb : List Int32}, k sc su jc rd br kd tg sy sz lt wg st nm lf rt wt ja jb = true → post (sc, su, jc, rd, br, dm_f kd, dm_f tg, dm_f sy, dm_f sz, dm_f lt, dm_f wg, dm_f st, dm_n env nm, dm_f lf, dm_f rt, dm_l wt, dm_f ja, dm_f jb)) :
    wpX_tryStatement post (sc, su, jc, rd, br, dm_f kd, dm_f tg, dm_f sy, dm_f sz, dm_f lt, dm_f wg, dm_f st, dm_n env nm, dm_f lf, dm_f rt, dm_l wt, dm_f ja, dm_f jb) x := by
  unfold dm_ts at h
  unfold wpX_tryStatement
  refine dm_gd h (fun hi h => dm_hd_ok h (fun r lt h => ⟨hi, dm_hd_ok h (fun r2 lt h => ⟨hi, dm_if h (fun h => ?_) (fun h => ⟨hi, dm_if h (fun h => ?_) (fun h => dm_t48_ok he hn h H)⟩)⟩)⟩))
  · unfold wX_tryStatement_43
    exact dm_t48_ok he hn h H
  · unfold wX_tryStatement_43
    exact dm_t48_ok he hn h H
theorem dm_bc_ok {post : St2 → Prop} {sc : Int32} {su : Int64} {jc : Int32} {rd : Int64} {br : Int32} {kd : List Int32} {tg : List Int32} {sy : List Int32} {sz : List Int32} {lt : List Int32} {wg : List Int32} {st : List Int32} {nm : List Nat} {lf : List Int32} {rt : List Int32} {wt : List Int64} {ja : List Int32} {jb : List Int32} {x a b : Int32} {k : dm_K} (h : dm_bc sc su jc rd br kd tg sy sz lt wg st nm lf rt wt ja jb x a b k = true) (H : ∀ {sc : Int32} {su : Int64} {jc : Int32} {rd : Int64} {br : Int32} {kd : List Int32} {tg : List Int32} {sy : List Int32} {sz : List Int32} {lt : List Int32} {wg : List Int32} {st : List Int32} {nm : List Nat} {lf : List Int32} {rt : List Int32} {wt : List Int64} {ja : List Int32} {jb : List Int32}, k sc su jc rd br kd tg sy sz lt wg st nm lf rt wt ja jb = true → post (sc, su, jc, rd, br, dm_f kd, dm_f tg, dm_f sy, dm_f sz, dm_f lt, dm_f wg, dm_f st, dm_n env nm, dm_f lf, dm_f rt, dm_l wt, dm_f ja, dm_f jb)) :
    wpX_bindCouple post (sc, su, jc, rd, br, dm_f kd, dm_f tg, dm_f sy, dm_f sz, dm_f lt, dm_f wg, dm_f st, dm_n env nm, dm_f lf, dm_f rt, dm_l wt, dm_f ja, dm_f jb) x a b := by
  unfold dm_bc at h
  unfold wpX_bindCouple
  exact dm_hd_ok h (fun r lt h => dm_gd h (fun hi h => dm_if h
    (fun h => ⟨hi, nm_r dm_fu ⟨hi, nm_r dm_fu ⟨hi, nm_r dm_fu (dm_wk_ok h (fun rd wt h => H h))⟩⟩⟩)
    (fun h => ⟨hi, dm_if h (fun h => ⟨hi, dm_wn_ok h (fun jc ja jb h => ⟨hi, dm_wn_ok h (fun jc ja jb h => H h)⟩)⟩) (fun h => H h)⟩)))
theorem dm_j158_ok {post : St2 → Prop} {sc : Int32} {su : Int64} {jc : Int32} {rd : Int64} {br : Int32} {kd : List Int32} {tg : List Int32} {sy : List Int32} {sz : List Int32} {lt : List Int32} {wg : List Int32} {st : List Int32} {nm : List Nat} {lf : List Int32} {rt : List Int32} {wt : List Int64} {ja : List Int32} {jb : List Int32} {x5 : Int32} {k : dm_K} (h : dm_j158 sc su jc rd br kd tg sy sz lt wg st nm lf rt wt ja jb x5 k = true) (H : ∀ {sc : Int32} {su : Int64} {jc : Int32} {rd : Int64} {br : Int32} {kd : List Int32} {tg : List Int32} {sy : List Int32} {sz : List Int32} {lt : List Int32} {wg : List Int32} {st : List Int32} {nm : List Nat} {lf : List Int32} {rt : List Int32} {wt : List Int64} {ja : List Int32} {jb : List Int32}, k sc su jc rd br kd tg sy sz lt wg st nm lf rt wt ja jb = true → post (sc, su, jc, rd, br, dm_f kd, dm_f tg, dm_f sy, dm_f sz, dm_f lt, dm_f wg, dm_f st, dm_n env nm, dm_f lf, dm_f rt, dm_l wt, dm_f ja, dm_f jb)) :
    wX_join_158 post x5 sc su jc rd br (dm_f kd) (dm_f tg) (dm_f sy) (dm_f sz) (dm_f lt) (dm_f wg) (dm_f st) (dm_n env nm) (dm_f lf) (dm_f rt) (dm_l wt) (dm_f ja) (dm_f jb) := dm_gd h (fun hi h => dm_if h (fun h => H h) (fun h => dm_wk_ok h (fun rd wt h => H h)))
theorem dm_j127_ok {post : St2 → Prop} {sc : Int32} {su : Int64} {jc : Int32} {rd : Int64} {br : Int32} {kd : List Int32} {tg : List Int32} {sy : List Int32} {sz : List Int32} {lt : List Int32} {wg : List Int32} {st : List Int32} {nm : List Nat} {lf : List Int32} {rt : List Int32} {wt : List Int64} {ja : List Int32} {jb : List Int32} {x5 x6 : Int32} {k : dm_K} (h : dm_j127 sc su jc rd br kd tg sy sz lt wg st nm lf rt wt ja jb x5 x6 k = true) (H : ∀ {sc : Int32} {su : Int64} {jc : Int32} {rd : Int64} {br : Int32} {kd : List Int32} {tg : List Int32} {sy : List Int32} {sz : List Int32} {lt : List Int32} {wg : List Int32} {st : List Int32} {nm : List Nat} {lf : List Int32} {rt : List Int32} {wt : List Int64} {ja : List Int32} {jb : List Int32}, k sc su jc rd br kd tg sy sz lt wg st nm lf rt wt ja jb = true → post (sc, su, jc, rd, br, dm_f kd, dm_f tg, dm_f sy, dm_f sz, dm_f lt, dm_f wg, dm_f st, dm_n env nm, dm_f lf, dm_f rt, dm_l wt, dm_f ja, dm_f jb)) :
    wX_join_127 post x5 x6 sc su jc rd br (dm_f kd) (dm_f tg) (dm_f sy) (dm_f sz) (dm_f lt) (dm_f wg) (dm_f st) (dm_n env nm) (dm_f lf) (dm_f rt) (dm_l wt) (dm_f ja) (dm_f jb) := dm_gd h (fun hi h => dm_if h (fun h => ⟨hi, hi, dm_bc_ok h (fun h => dm_j158_ok h H)⟩) (fun h => dm_j158_ok h H))
theorem dm_j56_ok (hn : ¬ env 3 = env 2) {post : St2 → Prop} {sc : Int32} {su : Int64} {jc : Int32} {rd : Int64} {br : Int32} {kd : List Int32} {tg : List Int32} {sy : List Int32} {sz : List Int32} {lt : List Int32} {wg : List Int32} {st : List Int32} {nm : List Nat} {lf : List Int32} {rt : List Int32} {wt : List Int64} {ja : List Int32} {jb : List Int32} {x5 z0 : Int32} {k : dm_K} (h : dm_j56 sc su jc rd br kd tg sy sz lt wg st nm lf rt wt ja jb x5 z0 k = true) (H : ∀ {sc : Int32} {su : Int64} {jc : Int32} {rd : Int64} {br : Int32} {kd : List Int32} {tg : List Int32} {sy : List Int32} {sz : List Int32} {lt : List Int32} {wg : List Int32} {st : List Int32} {nm : List Nat} {lf : List Int32} {rt : List Int32} {wt : List Int64} {ja : List Int32} {jb : List Int32}, k sc su jc rd br kd tg sy sz lt wg st nm lf rt wt ja jb = true → post (sc, su, jc, rd, br, dm_f kd, dm_f tg, dm_f sy, dm_f sz, dm_f lt, dm_f wg, dm_f st, dm_n env nm, dm_f lf, dm_f rt, dm_l wt, dm_f ja, dm_f jb)) :
    wX_join_56 post x5 z0 sc su jc rd br (dm_f kd) (dm_f tg) (dm_f sy) (dm_f sz) (dm_f lt) (dm_f wg) (dm_f st) (dm_n env nm) (dm_f lf) (dm_f rt) (dm_l wt) (dm_f ja) (dm_f jb) := by
  unfold dm_j56 at h
  unfold wX_join_56
  refine dm_gd h (fun hz h => nm_r dm_fu (dm_gd h (fun hx h => ⟨hz, hx, nm_r dm_fu ⟨hx, hz, hx, nm_r dm_lu ⟨hz, ?_⟩⟩⟩)))
  exact dm_if h (fun h => ⟨hz, dm_bn_ok hn h (fun h => dm_j127_ok h H)⟩) (fun h => dm_j127_ok h H)
theorem dm_j42_ok (hn : ¬ env 3 = env 2) {post : St2 → Prop} {sc : Int32} {su : Int64} {jc : Int32} {rd : Int64} {br : Int32} {kd : List Int32} {tg : List Int32} {sy : List Int32} {sz : List Int32} {lt : List Int32} {wg : List Int32} {st : List Int32} {nm : List Nat} {lf : List Int32} {rt : List Int32} {wt : List Int64} {ja : List Int32} {jb : List Int32} {x3 x4 z0 : Int32} {k : dm_K} (h : dm_j42 sc su jc rd br kd tg sy sz lt wg st nm lf rt wt ja jb x3 x4 z0 k = true) (H : ∀ {sc : Int32} {su : Int64} {jc : Int32} {rd : Int64} {br : Int32} {kd : List Int32} {tg : List Int32} {sy : List Int32} {sz : List Int32} {lt : List Int32} {wg : List Int32} {st : List Int32} {nm : List Nat} {lf : List Int32} {rt : List Int32} {wt : List Int64} {ja : List Int32} {jb : List Int32}, k sc su jc rd br kd tg sy sz lt wg st nm lf rt wt ja jb = true → post (sc, su, jc, rd, br, dm_f kd, dm_f tg, dm_f sy, dm_f sz, dm_f lt, dm_f wg, dm_f st, dm_n env nm, dm_f lf, dm_f rt, dm_l wt, dm_f ja, dm_f jb)) :
    wX_join_42 post x3 x4 z0 sc su jc rd br (dm_f kd) (dm_f tg) (dm_f sy) (dm_f sz) (dm_f lt) (dm_f wg) (dm_f st) (dm_n env nm) (dm_f lf) (dm_f rt) (dm_l wt) (dm_f ja) (dm_f jb) := dm_if h (fun h => dm_j56_ok hn h H) (fun h => dm_j56_ok hn h H)
theorem dm_jn_ok (hn : ¬ env 3 = env 2) {post : St2 → Prop} {sc : Int32} {su : Int64} {jc : Int32} {rd : Int64} {br : Int32} {kd : List Int32} {tg : List Int32} {sy : List Int32} {sz : List Int32} {lt : List Int32} {wg : List Int32} {st : List Int32} {nm : List Nat} {lf : List Int32} {rt : List Int32} {wt : List Int64} {ja : List Int32} {jb : List Int32} {x y : Int32} {k : dm_K} (h : dm_jn sc su jc rd br kd tg sy sz lt wg st nm lf rt wt ja jb x y k = true) (H : ∀ {sc : Int32} {su : Int64} {jc : Int32} {rd : Int64} {br : Int32} {kd : List Int32} {tg : List Int32} {sy : List Int32} {sz : List Int32} {lt : List Int32} {wg : List Int32} {st : List Int32} {nm : List Nat} {lf : List Int32} {rt : List Int32} {wt : List Int64} {ja : List Int32} {jb : List Int32}, k sc su jc rd br kd tg sy sz lt wg st nm lf rt wt ja jb = true → post (sc, su, jc, rd, br, dm_f kd, dm_f tg, dm_f sy, dm_f sz, dm_f lt, dm_f wg, dm_f st, dm_n env nm, dm_f lf, dm_f rt, dm_l wt, dm_f ja, dm_f jb)) :
    wpX_join post (sc, su, jc, rd, br, dm_f kd, dm_f tg, dm_f sy, dm_f sz, dm_f lt, dm_f wg, dm_f st, dm_n env nm, dm_f lf, dm_f rt, dm_l wt, dm_f ja, dm_f jb) x y := by
  unfold dm_jn at h
  unfold wpX_join
  exact dm_hd_ok h (fun r lt h => dm_hd_ok h (fun r2 lt h => dm_if h (fun h => H h) (fun h => dm_gd h (fun h1 h => dm_gd h (fun h2 h => dm_if h (fun h => dm_j42_ok hn h H) (fun h => dm_j42_ok hn h H))))))
theorem dm_w23_ok (he : env 4 = env 1 + env 2) (hn : ¬ env 3 = env 2) {post : St2 → Prop} {J : Int32 → Int64 → Int32 → Int64 → Int32 → (Nat → Int32) → (Nat → Int32) → (Nat → Int32) → (Nat → Int32) → (Nat → Int32) → (Nat → Int32) → (Nat → Int32) → (Nat → Int32) → (Nat → Int32) → (Nat → Int32) → (Nat → Int64) → (Nat → Int32) → (Nat → Int32) → Prop}
    {sc : Int32} {su : Int64} {jc : Int32} {rd : Int64} {br : Int32} {kd : List Int32} {tg : List Int32} {sy : List Int32} {sz : List Int32} {lt : List Int32} {wg : List Int32} {st : List Int32} {nm : List Nat} {lf : List Int32} {rt : List Int32} {wt : List Int64} {ja : List Int32} {jb : List Int32} {k : dm_K} (h : dm_w23 sc su jc rd br kd tg sy sz lt wg st nm lf rt wt ja jb k = true) (H : ∀ {sc : Int32} {su : Int64} {jc : Int32} {rd : Int64} {br : Int32} {kd : List Int32} {tg : List Int32} {sy : List Int32} {sz : List Int32} {lt : List Int32} {wg : List Int32} {st : List Int32} {nm : List Nat} {lf : List Int32} {rt : List Int32} {wt : List Int64} {ja : List Int32} {jb : List Int32}, k sc su jc rd br kd tg sy sz lt wg st nm lf rt wt ja jb = true → J sc su jc rd br (dm_f kd) (dm_f tg) (dm_f sy) (dm_f sz) (dm_f lt) (dm_f wg) (dm_f st) (dm_n env nm) (dm_f lf) (dm_f rt) (dm_l wt) (dm_f ja) (dm_f jb)) : wX_work_23 post J sc su jc rd br (dm_f kd) (dm_f tg) (dm_f sy) (dm_f sz) (dm_f lt) (dm_f wg) (dm_f st) (dm_n env nm) (dm_f lf) (dm_f rt) (dm_l wt) (dm_f ja) (dm_f jb) := by
  unfold dm_w23 at h
  unfold wX_work_23
  exact dm_if h (fun h => dm_lr_ok h (fun r h => nm_e (dm_ts_ok he hn h (fun h => H h)))) (fun h => nm_e (dm_gd h (fun hi h => ⟨hi, dm_jn_ok hn h (fun h => H h)⟩)))
theorem dm_w0_ok (he : env 4 = env 1 + env 2) (hn : ¬ env 3 = env 2) {post : St2 → Prop} {k : dm_K} (H : ∀ {sc : Int32} {su : Int64} {jc : Int32} {rd : Int64} {br : Int32} {kd : List Int32} {tg : List Int32} {sy : List Int32} {sz : List Int32} {lt : List Int32} {wg : List Int32} {st : List Int32} {nm : List Nat} {lf : List Int32} {rt : List Int32} {wt : List Int64} {ja : List Int32} {jb : List Int32}, k sc su jc rd br kd tg sy sz lt wg st nm lf rt wt ja jb = true → post (sc, su, jc, rd, br, dm_f kd, dm_f tg, dm_f sy, dm_f sz, dm_f lt, dm_f wg, dm_f st, dm_n env nm, dm_f lf, dm_f rt, dm_l wt, dm_f ja, dm_f jb)) :
    ∀ (n : Nat) (sc : Int32) (su : Int64) (jc : Int32) (rd : Int64) (br : Int32) (kd : List Int32) (tg : List Int32) (sy : List Int32) (sz : List Int32) (lt : List Int32) (wg : List Int32) (st : List Int32) (nm : List Nat) (lf : List Int32) (rt : List Int32) (wt : List Int64) (ja : List Int32) (jb : List Int32), dm_w0 k n sc su jc rd br kd tg sy sz lt wg st nm lf rt wt ja jb = true → wX_work_0 post n sc su jc rd br (dm_f kd) (dm_f tg) (dm_f sy) (dm_f sz) (dm_f lt) (dm_f wg) (dm_f st) (dm_n env nm) (dm_f lf) (dm_f rt) (dm_l wt) (dm_f ja) (dm_f jb) := by
  intro n
  induction n with
  | zero =>
    intro sc su jc rd br kd tg sy sz lt wg st nm lf rt wt ja jb h
    exact dm_no h rfl
  | succ n ih =>
    intro sc su jc rd br kd tg sy sz lt wg st nm lf rt wt ja jb h
    have hw : dm_w23 sc su jc rd br kd tg sy sz lt wg st nm lf rt wt ja jb (dm_w0 k n) = true → wX_work_23 post (wX_work_0 post n) sc su jc rd br (dm_f kd) (dm_f tg) (dm_f sy) (dm_f sz) (dm_f lt) (dm_f wg) (dm_f st) (dm_n env nm) (dm_f lf) (dm_f rt) (dm_l wt) (dm_f ja) (dm_f jb) := fun h => dm_w23_ok he hn h (fun h => ih _ _ _ _ _ _ _ _ _ _ _ _ _ _ _ _ _ _ h)
    exact dm_if h (fun h => dm_if h hw (fun h => dm_if h (fun h => H h) hw)) (fun h => H h)
theorem dm_wk0_ok (he : env 4 = env 1 + env 2) (hn : ¬ env 3 = env 2) {post : St2 → Prop} {sc : Int32} {su : Int64} {jc : Int32} {rd : Int64} {br : Int32} {kd : List Int32} {tg : List Int32} {sy : List Int32} {sz : List Int32} {lt : List Int32} {wg : List Int32} {st : List Int32} {nm : List Nat} {lf : List Int32} {rt : List Int32} {wt : List Int64} {ja : List Int32} {jb : List Int32} {k : dm_K} (h : dm_w0 k 40 sc su jc rd br kd tg sy sz lt wg st nm lf rt wt ja jb = true) (H : ∀ {sc : Int32} {su : Int64} {jc : Int32} {rd : Int64} {br : Int32} {kd : List Int32} {tg : List Int32} {sy : List Int32} {sz : List Int32} {lt : List Int32} {wg : List Int32} {st : List Int32} {nm : List Nat} {lf : List Int32} {rt : List Int32} {wt : List Int64} {ja : List Int32} {jb : List Int32}, k sc su jc rd br kd tg sy sz lt wg st nm lf rt wt ja jb = true → post (sc, su, jc, rd, br, dm_f kd, dm_f tg, dm_f sy, dm_f sz, dm_f lt, dm_f wg, dm_f st, dm_n env nm, dm_f lf, dm_f rt, dm_l wt, dm_f ja, dm_f jb)) : wpX_work post (sc, su, jc, rd, br, dm_f kd, dm_f tg, dm_f sy, dm_f sz, dm_f lt, dm_f wg, dm_f st, dm_n env nm, dm_f lf, dm_f rt, dm_l wt, dm_f ja, dm_f jb) :=
  ⟨40, dm_w0_ok he hn H 40 sc su jc rd br kd tg sy sz lt wg st nm lf rt wt ja jb h⟩
theorem dm_t232_ok (he : env 4 = env 1 + env 2) (hn : ¬ env 3 = env 2) {post : Int32 → St2 → Prop} {sc : Int32} {su : Int64} {jc : Int32} {rd : Int64} {br : Int32} {kd : List Int32} {tg : List Int32} {sy : List Int32} {sz : List Int32} {lt : List Int32} {wg : List Int32} {st : List Int32} {nm : List Nat} {lf : List Int32} {rt : List Int32} {wt : List Int64} {ja : List Int32} {jb : List Int32} {k : Int32 → dm_K} (h : dm_t232 sc su jc rd br kd tg sy sz lt wg st nm lf rt wt ja jb k = true) (H : ∀ {r : Int32} {sc : Int32} {su : Int64} {jc : Int32} {rd : Int64} {br : Int32} {kd : List Int32} {tg : List Int32} {sy : List Int32} {sz : List Int32} {lt : List Int32} {wg : List Int32} {st : List Int32} {nm : List Nat} {lf : List Int32} {rt : List Int32} {wt : List Int64} {ja : List Int32} {jb : List Int32}, k r sc su jc rd br kd tg sy sz lt wg st nm lf rt wt ja jb = true → post r (sc, su, jc, rd, br, dm_f kd, dm_f tg, dm_f sy, dm_f sz, dm_f lt, dm_f wg, dm_f st, dm_n env nm, dm_f lf, dm_f rt, dm_l wt, dm_f ja, dm_f jb)) :
    wX_tell_232 post sc su jc rd br (dm_f kd) (dm_f tg) (dm_f sy) (dm_f sz) (dm_f lt) (dm_f wg) (dm_f st) (dm_n env nm) (dm_f lf) (dm_f rt) (dm_l wt) (dm_f ja) (dm_f jb) := by
  unfold dm_t232 at h
  unfold wX_tell_232
  exact dm_wk0_ok he hn h (fun h => dm_if h (fun h => H h) (fun h => H h))
theorem dm_t204_ok (he : env 4 = env 1 + env 2) (hn : ¬ env 3 = env 2) {post : Int32 → St2 → Prop} {sc : Int32} {su : Int64} {jc : Int32} {rd : Int64} {br : Int32} {kd : List Int32} {tg : List Int32} {sy : List Int32} {sz : List Int32} {lt : List Int32} {wg : List Int32} {st : List Int32} {nm : List Nat} {lf : List Int32} {rt : List Int32} {wt : List Int64} {ja : List Int32} {jb : List Int32} {x6 z0 z1 : Int32} {k : Int32 → dm_K} (h : dm_t204 sc su jc rd br kd tg sy sz lt wg st nm lf rt wt ja jb x6 z0 z1 k = true) (H : ∀ {r : Int32} {sc : Int32} {su : Int64} {jc : Int32} {rd : Int64} {br : Int32} {kd : List Int32} {tg : List Int32} {sy : List Int32} {sz : List Int32} {lt : List Int32} {wg : List Int32} {st : List Int32} {nm : List Nat} {lf : List Int32} {rt : List Int32} {wt : List Int64} {ja : List Int32} {jb : List Int32}, k r sc su jc rd br kd tg sy sz lt wg st nm lf rt wt ja jb = true → post r (sc, su, jc, rd, br, dm_f kd, dm_f tg, dm_f sy, dm_f sz, dm_f lt, dm_f wg, dm_f st, dm_n env nm, dm_f lf, dm_f rt, dm_l wt, dm_f ja, dm_f jb)) :
    wX_tell_204 post x6 z0 z1 sc su jc rd br (dm_f kd) (dm_f tg) (dm_f sy) (dm_f sz) (dm_f lt) (dm_f wg) (dm_f st) (dm_n env nm) (dm_f lf) (dm_f rt) (dm_l wt) (dm_f ja) (dm_f jb) := dm_gd h (fun hi h => nm_r dm_fu (nm_e (nm_e (dm_t232_ok he hn h H))))
theorem dm_t101_ok (he : env 4 = env 1 + env 2) (hn : ¬ env 3 = env 2) {post : Int32 → St2 → Prop} {sc : Int32} {su : Int64} {jc : Int32} {rd : Int64} {br : Int32} {kd : List Int32} {tg : List Int32} {sy : List Int32} {sz : List Int32} {lt : List Int32} {wg : List Int32} {st : List Int32} {nm : List Nat} {lf : List Int32} {rt : List Int32} {wt : List Int64} {ja : List Int32} {jb : List Int32} {x1 x2 x3 x4 x5 y : Int32} {c : Nat} (hy : ¬ x1 = 1 → y = x3) (hc : x1 = 1 → y = env c) {k : Int32 → dm_K} (h : dm_t101 sc su jc rd br kd tg sy sz lt wg st nm lf rt wt ja jb x1 x2 x3 x4 x5 c k = true) (H : ∀ {r : Int32} {sc : Int32} {su : Int64} {jc : Int32} {rd : Int64} {br : Int32} {kd : List Int32} {tg : List Int32} {sy : List Int32} {sz : List Int32} {lt : List Int32} {wg : List Int32} {st : List Int32} {nm : List Nat} {lf : List Int32} {rt : List Int32} {wt : List Int64} {ja : List Int32} {jb : List Int32}, k r sc su jc rd br kd tg sy sz lt wg st nm lf rt wt ja jb = true → post r (sc, su, jc, rd, br, dm_f kd, dm_f tg, dm_f sy, dm_f sz, dm_f lt, dm_f wg, dm_f st, dm_n env nm, dm_f lf, dm_f rt, dm_l wt, dm_f ja, dm_f jb)) :
    wX_tell_101 post x1 x2 y x4 x5 sc su jc rd br (dm_f kd) (dm_f tg) (dm_f sy) (dm_f sz) (dm_f lt) (dm_f wg) (dm_f st) (dm_n env nm) (dm_f lf) (dm_f rt) (dm_l wt) (dm_f ja) (dm_f jb) := by
  unfold dm_t101 at h
  unfold wX_tell_101
  refine nm_e (dm_gd h (fun hi h => nm_r dm_fu ⟨hi, nm_r dm_fu ?_⟩))
  unfold dm_t101b at h
  refine dm_ic h (fun g h => ?_) (fun g h => ?_)
  · rw [hc g]
    exact dm_bn_ok hn h (fun h => dm_t232_ok he hn h H)
  · rw [hy g]
    exact dm_if h (fun h => dm_wn_ok h (fun jc ja jb h => dm_t232_ok he hn h H)) (fun h => dm_if h (fun h => dm_bc_ok h (fun h => dm_t232_ok he hn h H))
      (fun h => ⟨hi, nm_r dm_fu (dm_if h (fun h => dm_t204_ok he hn h H) (fun h => dm_t204_ok he hn h H))⟩))
theorem dm_t83_ok (he : env 4 = env 1 + env 2) (hn : ¬ env 3 = env 2) {post : Int32 → St2 → Prop} {sc : Int32} {su : Int64} {jc : Int32} {rd : Int64} {br : Int32} {kd : List Int32} {tg : List Int32} {sy : List Int32} {sz : List Int32} {lt : List Int32} {wg : List Int32} {st : List Int32} {nm : List Nat} {lf : List Int32} {rt : List Int32} {wt : List Int64} {ja : List Int32} {jb : List Int32} {x1 x2 x3 x4 z0 y : Int32} {c : Nat} (hy : ¬ x1 = 1 → y = x3) (hc : x1 = 1 → y = env c) {k : Int32 → dm_K} (h : dm_t83 sc su jc rd br kd tg sy sz lt wg st nm lf rt wt ja jb x1 x2 x3 x4 z0 c k = true) (H : ∀ {r : Int32} {sc : Int32} {su : Int64} {jc : Int32} {rd : Int64} {br : Int32} {kd : List Int32} {tg : List Int32} {sy : List Int32} {sz : List Int32} {lt : List Int32} {wg : List Int32} {st : List Int32} {nm : List Nat} {lf : List Int32} {rt : List Int32} {wt : List Int64} {ja : List Int32} {jb : List Int32}, k r sc su jc rd br kd tg sy sz lt wg st nm lf rt wt ja jb = true → post r (sc, su, jc, rd, br, dm_f kd, dm_f tg, dm_f sy, dm_f sz, dm_f lt, dm_f wg, dm_f st, dm_n env nm, dm_f lf, dm_f rt, dm_l wt, dm_f ja, dm_f jb)) :
    wX_tell_83 post x1 x2 y x4 z0 sc su jc rd br (dm_f kd) (dm_f tg) (dm_f sy) (dm_f sz) (dm_f lt) (dm_f wg) (dm_f st) (dm_n env nm) (dm_f lf) (dm_f rt) (dm_l wt) (dm_f ja) (dm_f jb) := dm_if h (fun h => dm_t101_ok he hn hy hc h H) (fun h => dm_iv_ok h (fun r h => dm_if h (fun h => H h) (fun h => dm_t101_ok he hn hy hc h H)))
theorem dm_t57_ok (he : env 4 = env 1 + env 2) (hn : ¬ env 3 = env 2) {post : Int32 → St2 → Prop} {sc : Int32} {su : Int64} {jc : Int32} {rd : Int64} {br : Int32} {kd : List Int32} {tg : List Int32} {sy : List Int32} {sz : List Int32} {lt : List Int32} {wg : List Int32} {st : List Int32} {nm : List Nat} {lf : List Int32} {rt : List Int32} {wt : List Int64} {ja : List Int32} {jb : List Int32} {x1 x2 x3 x4 y : Int32} {c : Nat} (hy : ¬ x1 = 1 → y = x3) (hc : x1 = 1 → y = env c) {k : Int32 → dm_K} (h : dm_t57 sc su jc rd br kd tg sy sz lt wg st nm lf rt wt ja jb x1 x2 x3 x4 c k = true) (H : ∀ {r : Int32} {sc : Int32} {su : Int64} {jc : Int32} {rd : Int64} {br : Int32} {kd : List Int32} {tg : List Int32} {sy : List Int32} {sz : List Int32} {lt : List Int32} {wg : List Int32} {st : List Int32} {nm : List Nat} {lf : List Int32} {rt : List Int32} {wt : List Int64} {ja : List Int32} {jb : List Int32}, k r sc su jc rd br kd tg sy sz lt wg st nm lf rt wt ja jb = true → post r (sc, su, jc, rd, br, dm_f kd, dm_f tg, dm_f sy, dm_f sz, dm_f lt, dm_f wg, dm_f st, dm_n env nm, dm_f lf, dm_f rt, dm_l wt, dm_f ja, dm_f jb)) :
    wX_tell_57 post x1 x2 y x4 sc su jc rd br (dm_f kd) (dm_f tg) (dm_f sy) (dm_f sz) (dm_f lt) (dm_f wg) (dm_f st) (dm_n env nm) (dm_f lf) (dm_f rt) (dm_l wt) (dm_f ja) (dm_f jb) := by
  have h78 : dm_t83 sc su jc rd br kd tg sy sz lt wg st nm lf rt wt ja jb x1 x2 x3 x4 1 c k = true → wX_tell_78 post x1 x2 y x4 sc su jc rd br (dm_f kd) (dm_f tg) (dm_f sy) (dm_f sz) (dm_f lt) (dm_f wg) (dm_f st) (dm_n env nm) (dm_f lf) (dm_f rt) (dm_l wt) (dm_f ja) (dm_f jb) := fun h => dm_t83_ok he hn hy hc h H
  exact dm_if h h78 (fun h => dm_if h h78 (fun h => dm_if h h78 (fun h => dm_if h h78 (fun h => dm_t83_ok he hn hy hc h H))))
theorem dm_tell_ok (he : env 4 = env 1 + env 2) (hn : ¬ env 3 = env 2) {post : Int32 → St2 → Prop} {sc : Int32} {su : Int64} {jc : Int32} {rd : Int64} {br : Int32} {kd : List Int32} {tg : List Int32} {sy : List Int32} {sz : List Int32} {lt : List Int32} {wg : List Int32} {st : List Int32} {nm : List Nat} {lf : List Int32} {rt : List Int32} {wt : List Int64} {ja : List Int32} {jb : List Int32} {x1 x2 x3 x4 y : Int32} {c : Nat} (hy : ¬ x1 = 1 → y = x3) (hc : x1 = 1 → y = env c) {k : Int32 → dm_K} (h : dm_tell sc su jc rd br kd tg sy sz lt wg st nm lf rt wt ja jb x1 x2 x3 x4 c k = true) (H : ∀ {r : Int32} {sc : Int32} {su : Int64} {jc : Int32} {rd : Int64} {br : Int32} {kd : List Int32} {tg : List Int32} {sy : List Int32} {sz : List Int32} {lt : List Int32} {wg : List Int32} {st : List Int32} {nm : List Nat} {lf : List Int32} {rt : List Int32} {wt : List Int64} {ja : List Int32} {jb : List Int32}, k r sc su jc rd br kd tg sy sz lt wg st nm lf rt wt ja jb = true → post r (sc, su, jc, rd, br, dm_f kd, dm_f tg, dm_f sy, dm_f sz, dm_f lt, dm_f wg, dm_f st, dm_n env nm, dm_f lf, dm_f rt, dm_l wt, dm_f ja, dm_f jb)) :
    wpX_tell post (sc, su, jc, rd, br, dm_f kd, dm_f tg, dm_f sy, dm_f sz, dm_f lt, dm_f wg, dm_f st, dm_n env nm, dm_f lf, dm_f rt, dm_l wt, dm_f ja, dm_f jb) x1 x2 y x4 := by
  unfold dm_tell at h
  unfold wpX_tell
  refine dm_if h (fun h => dm_if h (fun h => dm_if h (fun h => H h) (fun h => dm_if h (fun h => H h) (fun h => dm_iv_ok h (fun r h => dm_if h (fun h => H h) (fun h => dm_ic h (fun g h => dm_t57_ok he hn hy hc h H) (fun g h => ?_)))))) (fun h => H h)) (fun h => H h)
  rw [hy g]
  exact dm_iv_ok h (fun r h => dm_if h (fun h => H h) (fun h => dm_t57_ok he hn (fun _ => rfl) (fun z => absurd z g) h H))
theorem dm_wa_1 {post : Int32 → Prop} {sc : Int32} {su : Int64} {jc : Int32} {rd : Int64} {br : Int32} {kd : List Int32} {tg : List Int32} {sy : List Int32} {sz : List Int32} {lt : List Int32} {wg : List Int32} {st : List Int32} {nm : List Nat} {lf : List Int32} {rt : List Int32} {wt : List Int64} {ja : List Int32} {jb : List Int32} {k : Int32 → Bool} (H : ∀ r : Int32, k r = true → post r) :
    ∀ (n : Nat) (x1 x2 : Int32), dm_wa sc su k n x1 x2 = true → wX_waiting_14 post sc su jc rd br (dm_f kd) (dm_f tg) (dm_f sy) (dm_f sz) (dm_f lt) (dm_f wg) (dm_f st) (dm_n env nm) (dm_f lf) (dm_f rt) (dm_l wt) (dm_f ja) (dm_f jb) n x1 x2 := by
  intro n
  induction n with
  | zero =>
    intro x1 x2 h
    exact dm_no h rfl
  | succ n ih =>
    intro x1 x2 h
    exact dm_if h (fun h => H _ h) (fun h => nm_e (nm_e (ih _ _ h)))
theorem dm_wait_ok {post : Int32 → Prop} {sc : Int32} {su : Int64} {jc : Int32} {rd : Int64} {br : Int32} {kd : List Int32} {tg : List Int32} {sy : List Int32} {sz : List Int32} {lt : List Int32} {wg : List Int32} {st : List Int32} {nm : List Nat} {lf : List Int32} {rt : List Int32} {wt : List Int64} {ja : List Int32} {jb : List Int32} {k : Int32 → Bool} (h : dm_wait sc su jc rd br kd tg sy sz lt wg st nm lf rt wt ja jb k = true) (H : ∀ r : Int32, k r = true → post r) : wpX_waiting post (sc, su, jc, rd, br, dm_f kd, dm_f tg, dm_f sy, dm_f sz, dm_f lt, dm_f wg, dm_f st, dm_n env nm, dm_f lf, dm_f rt, dm_l wt, dm_f ja, dm_f jb) :=
  dm_if h (fun h => ⟨42, dm_wa_1 H 42 0 0 h⟩) (fun h => H _ h)
theorem dm_lk_ok {post : Int32 → St2 → Prop} {sc : Int32} {su : Int64} {jc : Int32} {rd : Int64} {br : Int32} {kd : List Int32} {tg : List Int32} {sy : List Int32} {sz : List Int32} {lt : List Int32} {wg : List Int32} {st : List Int32} {nm : List Nat} {lf : List Int32} {rt : List Int32} {wt : List Int64} {ja : List Int32} {jb : List Int32} {x y : Int32} {k : Int32 → dm_K} (h : dm_lk sc su jc rd br kd tg sy sz lt wg st nm lf rt wt ja jb x y k = true) (H : ∀ {r : Int32} {sc : Int32} {su : Int64} {jc : Int32} {rd : Int64} {br : Int32} {kd : List Int32} {tg : List Int32} {sy : List Int32} {sz : List Int32} {lt : List Int32} {wg : List Int32} {st : List Int32} {nm : List Nat} {lf : List Int32} {rt : List Int32} {wt : List Int64} {ja : List Int32} {jb : List Int32}, k r sc su jc rd br kd tg sy sz lt wg st nm lf rt wt ja jb = true → post r (sc, su, jc, rd, br, dm_f kd, dm_f tg, dm_f sy, dm_f sz, dm_f lt, dm_f wg, dm_f st, dm_n env nm, dm_f lf, dm_f rt, dm_l wt, dm_f ja, dm_f jb)) : wpX_linked post (sc, su, jc, rd, br, dm_f kd, dm_f tg, dm_f sy, dm_f sz, dm_f lt, dm_f wg, dm_f st, dm_n env nm, dm_f lf, dm_f rt, dm_l wt, dm_f ja, dm_f jb) x y := by
  unfold dm_lk at h
  unfold wpX_linked
  exact dm_iv_ok h (fun r h => dm_if h (fun h => H h) (fun h => dm_iv_ok h (fun r h => dm_if h (fun h => H h) (fun h => dm_if h
    (fun h => dm_hd_ok h (fun r lt h => dm_hd_ok h (fun r2 lt h => dm_if h (fun h => H h) (fun h => H h)))) (fun h => H h)))))
theorem dm_st_ok {post : Int32 → St2 → Prop} {sc : Int32} {su : Int64} {jc : Int32} {rd : Int64} {br : Int32} {kd : List Int32} {tg : List Int32} {sy : List Int32} {sz : List Int32} {lt : List Int32} {wg : List Int32} {st : List Int32} {nm : List Nat} {lf : List Int32} {rt : List Int32} {wt : List Int64} {ja : List Int32} {jb : List Int32} {x : Int32} {k : Int32 → dm_K} (h : dm_st sc su jc rd br kd tg sy sz lt wg st nm lf rt wt ja jb x k = true) (H : ∀ {r : Int32} {sc : Int32} {su : Int64} {jc : Int32} {rd : Int64} {br : Int32} {kd : List Int32} {tg : List Int32} {sy : List Int32} {sz : List Int32} {lt : List Int32} {wg : List Int32} {st : List Int32} {nm : List Nat} {lf : List Int32} {rt : List Int32} {wt : List Int64} {ja : List Int32} {jb : List Int32}, k r sc su jc rd br kd tg sy sz lt wg st nm lf rt wt ja jb = true → post r (sc, su, jc, rd, br, dm_f kd, dm_f tg, dm_f sy, dm_f sz, dm_f lt, dm_f wg, dm_f st, dm_n env nm, dm_f lf, dm_f rt, dm_l wt, dm_f ja, dm_f jb)) : wpX_state post (sc, su, jc, rd, br, dm_f kd, dm_f tg, dm_f sy, dm_f sz, dm_f lt, dm_f wg, dm_f st, dm_n env nm, dm_f lf, dm_f rt, dm_l wt, dm_f ja, dm_f jb) x := by
  unfold dm_st at h
  unfold wpX_state
  exact dm_if h (fun h => dm_iv_ok h (fun r h => dm_if h (fun h => H h) (fun h => dm_hd2_ok h (fun r lt h => dm_gd h (fun hi h => H h))))) (fun h => H h)
theorem dm_val_ok (h0 : env 0 = 0) {post : Int32 → St2 → Prop} {sc : Int32} {su : Int64} {jc : Int32} {rd : Int64} {br : Int32} {kd : List Int32} {tg : List Int32} {sy : List Int32} {sz : List Int32} {lt : List Int32} {wg : List Int32} {st : List Int32} {nm : List Nat} {lf : List Int32} {rt : List Int32} {wt : List Int64} {ja : List Int32} {jb : List Int32} {x : Int32} {k : Nat → dm_K} (h : dm_val sc su jc rd br kd tg sy sz lt wg st nm lf rt wt ja jb x k = true) (H : ∀ {e : Nat} {sc : Int32} {su : Int64} {jc : Int32} {rd : Int64} {br : Int32} {kd : List Int32} {tg : List Int32} {sy : List Int32} {sz : List Int32} {lt : List Int32} {wg : List Int32} {st : List Int32} {nm : List Nat} {lf : List Int32} {rt : List Int32} {wt : List Int64} {ja : List Int32} {jb : List Int32}, k e sc su jc rd br kd tg sy sz lt wg st nm lf rt wt ja jb = true → post (env e) (sc, su, jc, rd, br, dm_f kd, dm_f tg, dm_f sy, dm_f sz, dm_f lt, dm_f wg, dm_f st, dm_n env nm, dm_f lf, dm_f rt, dm_l wt, dm_f ja, dm_f jb)) : wpX_value post (sc, su, jc, rd, br, dm_f kd, dm_f tg, dm_f sy, dm_f sz, dm_f lt, dm_f wg, dm_f st, dm_n env nm, dm_f lf, dm_f rt, dm_l wt, dm_f ja, dm_f jb) x := by
  have H0 : ∀ {sc : Int32} {su : Int64} {jc : Int32} {rd : Int64} {br : Int32} {kd : List Int32} {tg : List Int32} {sy : List Int32} {sz : List Int32} {lt : List Int32} {wg : List Int32} {st : List Int32} {nm : List Nat} {lf : List Int32} {rt : List Int32} {wt : List Int64} {ja : List Int32} {jb : List Int32}, k 0 sc su jc rd br kd tg sy sz lt wg st nm lf rt wt ja jb = true → post 0 (sc, su, jc, rd, br, dm_f kd, dm_f tg, dm_f sy, dm_f sz, dm_f lt, dm_f wg, dm_f st, dm_n env nm, dm_f lf, dm_f rt, dm_l wt, dm_f ja, dm_f jb) := fun h => by
    rw [← h0]
    exact H h
  unfold dm_val at h
  unfold wpX_value
  exact dm_iv_ok h (fun r h => dm_if h (fun h => H0 h) (fun h => dm_if h (fun h => dm_hd_ok h (fun r lt h => dm_gd h (fun hi h => dm_if h (fun h => ⟨hi, H h⟩) (fun h => H0 h)))) (fun h => H0 h)))
theorem dm_cl_1 {post : Int32 → Prop} {sc : Int32} {su : Int64} {jc : Int32} {rd : Int64} {br : Int32} {kd : List Int32} {tg : List Int32} {sy : List Int32} {sz : List Int32} {lt : List Int32} {wg : List Int32} {st : List Int32} {nm : List Nat} {lf : List Int32} {rt : List Int32} {wt : List Int64} {ja : List Int32} {jb : List Int32} {k : Int32 → Bool} (H : ∀ r : Int32, k r = true → post r) :
    ∀ (n : Nat) (x1 x2 : Int32), dm_cl lt k n x1 x2 = true → wX_classes_14 post sc su jc rd br (dm_f kd) (dm_f tg) (dm_f sy) (dm_f sz) (dm_f lt) (dm_f wg) (dm_f st) (dm_n env nm) (dm_f lf) (dm_f rt) (dm_l wt) (dm_f ja) (dm_f jb) n x1 x2 := by
  intro n
  induction n with
  | zero =>
    intro x1 x2 h
    exact dm_no h rfl
  | succ n ih =>
    intro x1 x2 h
    exact dm_if h (fun h => H _ h) (fun h => dm_gd h (fun hi h => dm_if h (fun h => nm_e (nm_e (ih _ _ h))) (fun h => nm_e (ih _ _ h))))
theorem dm_cls_ok {post : Int32 → Prop} {sc : Int32} {su : Int64} {jc : Int32} {rd : Int64} {br : Int32} {kd : List Int32} {tg : List Int32} {sy : List Int32} {sz : List Int32} {lt : List Int32} {wg : List Int32} {st : List Int32} {nm : List Nat} {lf : List Int32} {rt : List Int32} {wt : List Int64} {ja : List Int32} {jb : List Int32} {k : Int32 → Bool} (h : dm_cls sc su jc rd br kd tg sy sz lt wg st nm lf rt wt ja jb k = true) (H : ∀ r : Int32, k r = true → post r) : wpX_classes post (sc, su, jc, rd, br, dm_f kd, dm_f tg, dm_f sy, dm_f sz, dm_f lt, dm_f wg, dm_f st, dm_n env nm, dm_f lf, dm_f rt, dm_l wt, dm_f ja, dm_f jb) :=
  dm_if h (fun h => ⟨14, dm_cl_1 H 14 0 0 h⟩) (fun h => H _ h)
theorem dm_p72_1 {post : Int32 → St2 → Prop} {sc : Int32} {su : Int64} {jc : Int32} {rd : Int64} {br : Int32} {kd : List Int32} {tg : List Int32} {sy : List Int32} {sz : List Int32} {wg : List Int32} {st : List Int32} {nm : List Nat} {lf : List Int32} {rt : List Int32} {wt : List Int64} {ja : List Int32} {jb : List Int32} {x4 : Int32} {k : Int32 → List Int32 → Bool} (H : ∀ (r : Int32) (lt : List Int32), k r lt = true → post r (sc, su, jc, rd, br, dm_f kd, dm_f tg, dm_f sy, dm_f sz, dm_f lt, dm_f wg, dm_f st, dm_n env nm, dm_f lf, dm_f rt, dm_l wt, dm_f ja, dm_f jb)) :
    ∀ (n : Nat) (x5 : Int32) (lt : List Int32), dm_p72 x4 k n x5 lt = true → wX_part_72 post x4 n x5 sc su jc rd br (dm_f kd) (dm_f tg) (dm_f sy) (dm_f sz) (dm_f lt) (dm_f wg) (dm_f st) (dm_n env nm) (dm_f lf) (dm_f rt) (dm_l wt) (dm_f ja) (dm_f jb) := by
  intro n
  induction n with
  | zero =>
    intro x5 lt h
    exact dm_no h rfl
  | succ n ih =>
    intro x5 lt h
    exact dm_hd_ok h (fun r lt h => dm_if h (fun h => H _ _ h) (fun h => nm_e (ih _ _ h)))
theorem dm_p72_ok {post : Int32 → St2 → Prop} {sc : Int32} {su : Int64} {jc : Int32} {rd : Int64} {br : Int32} {kd : List Int32} {tg : List Int32} {sy : List Int32} {sz : List Int32} {lt : List Int32} {wg : List Int32} {st : List Int32} {nm : List Nat} {lf : List Int32} {rt : List Int32} {wt : List Int64} {ja : List Int32} {jb : List Int32} {x4 : Int32} {k : Int32 → List Int32 → Bool} (h : dm_p72 x4 k 13 0 lt = true) (H : ∀ (r : Int32) (lt : List Int32), k r lt = true → post r (sc, su, jc, rd, br, dm_f kd, dm_f tg, dm_f sy, dm_f sz, dm_f lt, dm_f wg, dm_f st, dm_n env nm, dm_f lf, dm_f rt, dm_l wt, dm_f ja, dm_f jb)) :
    ∃ fu : Nat, wX_part_72 post x4 fu 0 sc su jc rd br (dm_f kd) (dm_f tg) (dm_f sy) (dm_f sz) (dm_f lt) (dm_f wg) (dm_f st) (dm_n env nm) (dm_f lf) (dm_f rt) (dm_l wt) (dm_f ja) (dm_f jb) := ⟨13, dm_p72_1 H 13 0 lt h⟩
theorem dm_p64_ok {post : Int32 → St2 → Prop} {sc : Int32} {su : Int64} {jc : Int32} {rd : Int64} {br : Int32} {kd : List Int32} {tg : List Int32} {sy : List Int32} {sz : List Int32} {lt : List Int32} {wg : List Int32} {st : List Int32} {nm : List Nat} {lf : List Int32} {rt : List Int32} {wt : List Int64} {ja : List Int32} {jb : List Int32} {z0 : Int32} {k : Int32 → dm_K} (h : dm_p64 sc su jc rd br kd tg sy sz lt wg st nm lf rt wt ja jb z0 k = true) (H : ∀ {r : Int32} {sc : Int32} {su : Int64} {jc : Int32} {rd : Int64} {br : Int32} {kd : List Int32} {tg : List Int32} {sy : List Int32} {sz : List Int32} {lt : List Int32} {wg : List Int32} {st : List Int32} {nm : List Nat} {lf : List Int32} {rt : List Int32} {wt : List Int64} {ja : List Int32} {jb : List Int32}, k r sc su jc rd br kd tg sy sz lt wg st nm lf rt wt ja jb = true → post r (sc, su, jc, rd, br, dm_f kd, dm_f tg, dm_f sy, dm_f sz, dm_f lt, dm_f wg, dm_f st, dm_n env nm, dm_f lf, dm_f rt, dm_l wt, dm_f ja, dm_f jb)) : wX_part_64 post z0 sc su jc rd br (dm_f kd) (dm_f tg) (dm_f sy) (dm_f sz) (dm_f lt) (dm_f wg) (dm_f st) (dm_n env nm) (dm_f lf) (dm_f rt) (dm_l wt) (dm_f ja) (dm_f jb) := by
  unfold dm_p64 at h
  unfold wX_part_64
  exact dm_hd_ok h (fun r lt h => dm_p72_ok h (fun x lt h => H h))
theorem dm_pt_ok {post : Int32 → St2 → Prop} {sc : Int32} {su : Int64} {jc : Int32} {rd : Int64} {br : Int32} {kd : List Int32} {tg : List Int32} {sy : List Int32} {sz : List Int32} {lt : List Int32} {wg : List Int32} {st : List Int32} {nm : List Nat} {lf : List Int32} {rt : List Int32} {wt : List Int64} {ja : List Int32} {jb : List Int32} {x p : Int32} {k : Int32 → dm_K} (h : dm_pt sc su jc rd br kd tg sy sz lt wg st nm lf rt wt ja jb x p k = true) (H : ∀ {r : Int32} {sc : Int32} {su : Int64} {jc : Int32} {rd : Int64} {br : Int32} {kd : List Int32} {tg : List Int32} {sy : List Int32} {sz : List Int32} {lt : List Int32} {wg : List Int32} {st : List Int32} {nm : List Nat} {lf : List Int32} {rt : List Int32} {wt : List Int64} {ja : List Int32} {jb : List Int32}, k r sc su jc rd br kd tg sy sz lt wg st nm lf rt wt ja jb = true → post r (sc, su, jc, rd, br, dm_f kd, dm_f tg, dm_f sy, dm_f sz, dm_f lt, dm_f wg, dm_f st, dm_n env nm, dm_f lf, dm_f rt, dm_l wt, dm_f ja, dm_f jb)) : wpX_part post (sc, su, jc, rd, br, dm_f kd, dm_f tg, dm_f sy, dm_f sz, dm_f lt, dm_f wg, dm_f st, dm_n env nm, dm_f lf, dm_f rt, dm_l wt, dm_f ja, dm_f jb) x p := by
  unfold dm_pt at h
  unfold wpX_part
  exact dm_iv_ok h (fun r h => dm_if h (fun h => H h) (fun h => dm_if h (fun h => dm_if h (fun h => H h) (fun h => dm_if h
    (fun h => dm_hd_ok h (fun r lt h => dm_gd h (fun hi h => dm_if h (fun h => dm_if h (fun h => ⟨hi, dm_p64_ok h H⟩) (fun h => ⟨hi, dm_p64_ok h H⟩)) (fun h => H h)))) (fun h => H h))) (fun h => H h)))
theorem dm_clr_ok {post : Int32 → St2 → Prop} {sc : Int32} {su : Int64} {jc : Int32} {rd : Int64} {br : Int32} {kd : List Int32} {tg : List Int32} {sy : List Int32} {sz : List Int32} {lt : List Int32} {wg : List Int32} {st : List Int32} {nm : List Nat} {lf : List Int32} {rt : List Int32} {wt : List Int64} {ja : List Int32} {jb : List Int32} {k : Int32 → dm_K} (h : dm_clr sc su jc rd br kd tg sy sz lt wg st nm lf rt wt ja jb k = true) (H : ∀ {r : Int32} {sc : Int32} {su : Int64} {jc : Int32} {rd : Int64} {br : Int32} {kd : List Int32} {tg : List Int32} {sy : List Int32} {sz : List Int32} {lt : List Int32} {wg : List Int32} {st : List Int32} {nm : List Nat} {lf : List Int32} {rt : List Int32} {wt : List Int64} {ja : List Int32} {jb : List Int32}, k r sc su jc rd br kd tg sy sz lt wg st nm lf rt wt ja jb = true → post r (sc, su, jc, rd, br, dm_f kd, dm_f tg, dm_f sy, dm_f sz, dm_f lt, dm_f wg, dm_f st, dm_n env nm, dm_f lf, dm_f rt, dm_l wt, dm_f ja, dm_f jb)) : wpX_clear post (sc, su, jc, rd, br, dm_f kd, dm_f tg, dm_f sy, dm_f sz, dm_f lt, dm_f wg, dm_f st, dm_n env nm, dm_f lf, dm_f rt, dm_l wt, dm_f ja, dm_f jb) := by
  unfold dm_clr at h
  unfold wpX_clear
  exact dm_rs_ok h (fun lt wg st wt h => H h)
end
end
section
/-- the printed state of a picture; a call from a given picture to a given answer and picture -/
def dm_cv (env : Nat → Int32) (s : dm_S) : St2 := (s.1, s.2.1, s.2.2.1, s.2.2.2.1, s.2.2.2.2.1, dm_f s.2.2.2.2.2.1, dm_f s.2.2.2.2.2.2.1, dm_f s.2.2.2.2.2.2.2.1, dm_f s.2.2.2.2.2.2.2.2.1, dm_f s.2.2.2.2.2.2.2.2.2.1, dm_f s.2.2.2.2.2.2.2.2.2.2.1, dm_f s.2.2.2.2.2.2.2.2.2.2.2.1, dm_n env s.2.2.2.2.2.2.2.2.2.2.2.2.1, dm_f s.2.2.2.2.2.2.2.2.2.2.2.2.2.1, dm_f s.2.2.2.2.2.2.2.2.2.2.2.2.2.2.1, dm_l s.2.2.2.2.2.2.2.2.2.2.2.2.2.2.2.1, dm_f s.2.2.2.2.2.2.2.2.2.2.2.2.2.2.2.2.1, dm_f s.2.2.2.2.2.2.2.2.2.2.2.2.2.2.2.2.2)
def dm_ck (r0 : Int32) (s0 : dm_S) : Int32 → dm_K := fun r sc su jc rd br kd tg sy sz lt wg st nm lf rt wt ja jb => (decide (r = r0) && (decide (sc = s0.1) && (decide (su = s0.2.1) && (decide (jc = s0.2.2.1) && (decide (rd = s0.2.2.2.1) && (decide (br = s0.2.2.2.2.1) && (decide (kd = s0.2.2.2.2.2.1) && (decide (tg = s0.2.2.2.2.2.2.1) && (decide (sy = s0.2.2.2.2.2.2.2.1) && (decide (sz = s0.2.2.2.2.2.2.2.2.1) && (decide (lt = s0.2.2.2.2.2.2.2.2.2.1) && (decide (wg = s0.2.2.2.2.2.2.2.2.2.2.1) && (decide (st = s0.2.2.2.2.2.2.2.2.2.2.2.1) && (decide (nm = s0.2.2.2.2.2.2.2.2.2.2.2.2.1) && (decide (lf = s0.2.2.2.2.2.2.2.2.2.2.2.2.2.1) && (decide (rt = s0.2.2.2.2.2.2.2.2.2.2.2.2.2.2.1) && (decide (wt = s0.2.2.2.2.2.2.2.2.2.2.2.2.2.2.2.1) && (decide (ja = s0.2.2.2.2.2.2.2.2.2.2.2.2.2.2.2.2.1) && (decide (jb = s0.2.2.2.2.2.2.2.2.2.2.2.2.2.2.2.2.2))))))))))))))))))))
def dm_ckn (e0 : Nat) (s0 : dm_S) : Nat → dm_K := fun e sc su jc rd br kd tg sy sz lt wg st nm lf rt wt ja jb => (decide (e = e0) && (decide (sc = s0.1) && (decide (su = s0.2.1) && (decide (jc = s0.2.2.1) && (decide (rd = s0.2.2.2.1) && (decide (br = s0.2.2.2.2.1) && (decide (kd = s0.2.2.2.2.2.1) && (decide (tg = s0.2.2.2.2.2.2.1) && (decide (sy = s0.2.2.2.2.2.2.2.1) && (decide (sz = s0.2.2.2.2.2.2.2.2.1) && (decide (lt = s0.2.2.2.2.2.2.2.2.2.1) && (decide (wg = s0.2.2.2.2.2.2.2.2.2.2.1) && (decide (st = s0.2.2.2.2.2.2.2.2.2.2.2.1) && (decide (nm = s0.2.2.2.2.2.2.2.2.2.2.2.2.1) && (decide (lf = s0.2.2.2.2.2.2.2.2.2.2.2.2.2.1) && (decide (rt = s0.2.2.2.2.2.2.2.2.2.2.2.2.2.2.1) && (decide (wt = s0.2.2.2.2.2.2.2.2.2.2.2.2.2.2.2.1) && (decide (ja = s0.2.2.2.2.2.2.2.2.2.2.2.2.2.2.2.2.1) && (decide (jb = s0.2.2.2.2.2.2.2.2.2.2.2.2.2.2.2.2.2))))))))))))))))))))
def dm_tellS (s : dm_S) (x1 x2 x3 x4 : Int32) (c : Nat) (r0 : Int32) (s0 : dm_S) : Bool := dm_tell s.1 s.2.1 s.2.2.1 s.2.2.2.1 s.2.2.2.2.1 s.2.2.2.2.2.1 s.2.2.2.2.2.2.1 s.2.2.2.2.2.2.2.1 s.2.2.2.2.2.2.2.2.1 s.2.2.2.2.2.2.2.2.2.1 s.2.2.2.2.2.2.2.2.2.2.1 s.2.2.2.2.2.2.2.2.2.2.2.1 s.2.2.2.2.2.2.2.2.2.2.2.2.1 s.2.2.2.2.2.2.2.2.2.2.2.2.2.1 s.2.2.2.2.2.2.2.2.2.2.2.2.2.2.1 s.2.2.2.2.2.2.2.2.2.2.2.2.2.2.2.1 s.2.2.2.2.2.2.2.2.2.2.2.2.2.2.2.2.1 s.2.2.2.2.2.2.2.2.2.2.2.2.2.2.2.2.2 x1 x2 x3 x4 c (dm_ck r0 s0)
def dm_lkS (s : dm_S) (x y r0 : Int32) (s0 : dm_S) : Bool := dm_lk s.1 s.2.1 s.2.2.1 s.2.2.2.1 s.2.2.2.2.1 s.2.2.2.2.2.1 s.2.2.2.2.2.2.1 s.2.2.2.2.2.2.2.1 s.2.2.2.2.2.2.2.2.1 s.2.2.2.2.2.2.2.2.2.1 s.2.2.2.2.2.2.2.2.2.2.1 s.2.2.2.2.2.2.2.2.2.2.2.1 s.2.2.2.2.2.2.2.2.2.2.2.2.1 s.2.2.2.2.2.2.2.2.2.2.2.2.2.1 s.2.2.2.2.2.2.2.2.2.2.2.2.2.2.1 s.2.2.2.2.2.2.2.2.2.2.2.2.2.2.2.1 s.2.2.2.2.2.2.2.2.2.2.2.2.2.2.2.2.1 s.2.2.2.2.2.2.2.2.2.2.2.2.2.2.2.2.2 x y (dm_ck r0 s0)
def dm_stS (s : dm_S) (x r0 : Int32) (s0 : dm_S) : Bool := dm_st s.1 s.2.1 s.2.2.1 s.2.2.2.1 s.2.2.2.2.1 s.2.2.2.2.2.1 s.2.2.2.2.2.2.1 s.2.2.2.2.2.2.2.1 s.2.2.2.2.2.2.2.2.1 s.2.2.2.2.2.2.2.2.2.1 s.2.2.2.2.2.2.2.2.2.2.1 s.2.2.2.2.2.2.2.2.2.2.2.1 s.2.2.2.2.2.2.2.2.2.2.2.2.1 s.2.2.2.2.2.2.2.2.2.2.2.2.2.1 s.2.2.2.2.2.2.2.2.2.2.2.2.2.2.1 s.2.2.2.2.2.2.2.2.2.2.2.2.2.2.2.1 s.2.2.2.2.2.2.2.2.2.2.2.2.2.2.2.2.1 s.2.2.2.2.2.2.2.2.2.2.2.2.2.2.2.2.2 x (dm_ck r0 s0)
def dm_valS (s : dm_S) (x : Int32) (e0 : Nat) (s0 : dm_S) : Bool := dm_val s.1 s.2.1 s.2.2.1 s.2.2.2.1 s.2.2.2.2.1 s.2.2.2.2.2.1 s.2.2.2.2.2.2.1 s.2.2.2.2.2.2.2.1 s.2.2.2.2.2.2.2.2.1 s.2.2.2.2.2.2.2.2.2.1 s.2.2.2.2.2.2.2.2.2.2.1 s.2.2.2.2.2.2.2.2.2.2.2.1 s.2.2.2.2.2.2.2.2.2.2.2.2.1 s.2.2.2.2.2.2.2.2.2.2.2.2.2.1 s.2.2.2.2.2.2.2.2.2.2.2.2.2.2.1 s.2.2.2.2.2.2.2.2.2.2.2.2.2.2.2.1 s.2.2.2.2.2.2.2.2.2.2.2.2.2.2.2.2.1 s.2.2.2.2.2.2.2.2.2.2.2.2.2.2.2.2.2 x (dm_ckn e0 s0)
def dm_ptS (s : dm_S) (x p r0 : Int32) (s0 : dm_S) : Bool := dm_pt s.1 s.2.1 s.2.2.1 s.2.2.2.1 s.2.2.2.2.1 s.2.2.2.2.2.1 s.2.2.2.2.2.2.1 s.2.2.2.2.2.2.2.1 s.2.2.2.2.2.2.2.2.1 s.2.2.2.2.2.2.2.2.2.1 s.2.2.2.2.2.2.2.2.2.2.1 s.2.2.2.2.2.2.2.2.2.2.2.1 s.2.2.2.2.2.2.2.2.2.2.2.2.1 s.2.2.2.2.2.2.2.2.2.2.2.2.2.1 s.2.2.2.2.2.2.2.2.2.2.2.2.2.2.1 s.2.2.2.2.2.2.2.2.2.2.2.2.2.2.2.1 s.2.2.2.2.2.2.2.2.2.2.2.2.2.2.2.2.1 s.2.2.2.2.2.2.2.2.2.2.2.2.2.2.2.2.2 x p (dm_ck r0 s0)
def dm_clrS (s : dm_S) (r0 : Int32) (s0 : dm_S) : Bool := dm_clr s.1 s.2.1 s.2.2.1 s.2.2.2.1 s.2.2.2.2.1 s.2.2.2.2.2.1 s.2.2.2.2.2.2.1 s.2.2.2.2.2.2.2.1 s.2.2.2.2.2.2.2.2.1 s.2.2.2.2.2.2.2.2.2.1 s.2.2.2.2.2.2.2.2.2.2.1 s.2.2.2.2.2.2.2.2.2.2.2.1 s.2.2.2.2.2.2.2.2.2.2.2.2.1 s.2.2.2.2.2.2.2.2.2.2.2.2.2.1 s.2.2.2.2.2.2.2.2.2.2.2.2.2.2.1 s.2.2.2.2.2.2.2.2.2.2.2.2.2.2.2.1 s.2.2.2.2.2.2.2.2.2.2.2.2.2.2.2.2.1 s.2.2.2.2.2.2.2.2.2.2.2.2.2.2.2.2.2 (dm_ck r0 s0)
def dm_waitS (s : dm_S) (r0 : Int32) : Bool := dm_wait s.1 s.2.1 s.2.2.1 s.2.2.2.1 s.2.2.2.2.1 s.2.2.2.2.2.1 s.2.2.2.2.2.2.1 s.2.2.2.2.2.2.2.1 s.2.2.2.2.2.2.2.2.1 s.2.2.2.2.2.2.2.2.2.1 s.2.2.2.2.2.2.2.2.2.2.1 s.2.2.2.2.2.2.2.2.2.2.2.1 s.2.2.2.2.2.2.2.2.2.2.2.2.1 s.2.2.2.2.2.2.2.2.2.2.2.2.2.1 s.2.2.2.2.2.2.2.2.2.2.2.2.2.2.1 s.2.2.2.2.2.2.2.2.2.2.2.2.2.2.2.1 s.2.2.2.2.2.2.2.2.2.2.2.2.2.2.2.2.1 s.2.2.2.2.2.2.2.2.2.2.2.2.2.2.2.2.2 (fun r => decide (r = r0))
def dm_clsS (s : dm_S) (r0 : Int32) : Bool := dm_cls s.1 s.2.1 s.2.2.1 s.2.2.2.1 s.2.2.2.2.1 s.2.2.2.2.2.1 s.2.2.2.2.2.2.1 s.2.2.2.2.2.2.2.1 s.2.2.2.2.2.2.2.2.1 s.2.2.2.2.2.2.2.2.2.1 s.2.2.2.2.2.2.2.2.2.2.1 s.2.2.2.2.2.2.2.2.2.2.2.1 s.2.2.2.2.2.2.2.2.2.2.2.2.1 s.2.2.2.2.2.2.2.2.2.2.2.2.2.1 s.2.2.2.2.2.2.2.2.2.2.2.2.2.2.1 s.2.2.2.2.2.2.2.2.2.2.2.2.2.2.2.1 s.2.2.2.2.2.2.2.2.2.2.2.2.2.2.2.2.1 s.2.2.2.2.2.2.2.2.2.2.2.2.2.2.2.2.2 (fun r => decide (r = r0))
theorem dm_an {a b : Bool} (h : (a && b) = true) : a = true ∧ b = true := by
  cases a
  · exact dm_no h rfl
  · exact ⟨rfl, h⟩
section
variable {env : Nat → Int32}
theorem dm_ck_ok {post : Int32 → St2 → Prop} {r0 : Int32} {s0 : dm_S} (hp : post r0 (dm_cv env s0)) : ∀ {r : Int32} {sc : Int32} {su : Int64} {jc : Int32} {rd : Int64} {br : Int32} {kd : List Int32} {tg : List Int32} {sy : List Int32} {sz : List Int32} {lt : List Int32} {wg : List Int32} {st : List Int32} {nm : List Nat} {lf : List Int32} {rt : List Int32} {wt : List Int64} {ja : List Int32} {jb : List Int32}, dm_ck r0 s0 r sc su jc rd br kd tg sy sz lt wg st nm lf rt wt ja jb = true → post r (sc, su, jc, rd, br, dm_f kd, dm_f tg, dm_f sy, dm_f sz, dm_f lt, dm_f wg, dm_f st, dm_n env nm, dm_f lf, dm_f rt, dm_l wt, dm_f ja, dm_f jb) := by
  intro r sc su jc rd br kd tg sy sz lt wg st nm lf rt wt ja jb h
  obtain ⟨a0, h0⟩ := dm_an h
  obtain ⟨a1, h1⟩ := dm_an h0
  obtain ⟨a2, h2⟩ := dm_an h1
  obtain ⟨a3, h3⟩ := dm_an h2
  obtain ⟨a4, h4⟩ := dm_an h3
  obtain ⟨a5, h5⟩ := dm_an h4
  obtain ⟨a6, h6⟩ := dm_an h5
  obtain ⟨a7, h7⟩ := dm_an h6
  obtain ⟨a8, h8⟩ := dm_an h7
  obtain ⟨a9, h9⟩ := dm_an h8
  obtain ⟨a10, h10⟩ := dm_an h9
  obtain ⟨a11, h11⟩ := dm_an h10
  obtain ⟨a12, h12⟩ := dm_an h11
  obtain ⟨a13, h13⟩ := dm_an h12
  obtain ⟨a14, h14⟩ := dm_an h13
  obtain ⟨a15, h15⟩ := dm_an h14
  obtain ⟨a16, h16⟩ := dm_an h15
  obtain ⟨a17, h17⟩ := dm_an h16
  have b0 := of_decide_eq_true a0
  have b1 := of_decide_eq_true a1
  have b2 := of_decide_eq_true a2
  have b3 := of_decide_eq_true a3
  have b4 := of_decide_eq_true a4
  have b5 := of_decide_eq_true a5
  have b6 := of_decide_eq_true a6
  have b7 := of_decide_eq_true a7
  have b8 := of_decide_eq_true a8
  have b9 := of_decide_eq_true a9
  have b10 := of_decide_eq_true a10
  have b11 := of_decide_eq_true a11
  have b12 := of_decide_eq_true a12
  have b13 := of_decide_eq_true a13
  have b14 := of_decide_eq_true a14
  have b15 := of_decide_eq_true a15
  have b16 := of_decide_eq_true a16
  have b17 := of_decide_eq_true a17
  have b18 := of_decide_eq_true h17
  subst b0
  subst b1
  subst b2
  subst b3
  subst b4
  subst b5
  subst b6
  subst b7
  subst b8
  subst b9
  subst b10
  subst b11
  subst b12
  subst b13
  subst b14
  subst b15
  subst b16
  subst b17
  subst b18
  exact hp
theorem dm_ckn_ok {post : Int32 → St2 → Prop} {e0 : Nat} {s0 : dm_S} (hp : post (env e0) (dm_cv env s0)) : ∀ {e : Nat} {sc : Int32} {su : Int64} {jc : Int32} {rd : Int64} {br : Int32} {kd : List Int32} {tg : List Int32} {sy : List Int32} {sz : List Int32} {lt : List Int32} {wg : List Int32} {st : List Int32} {nm : List Nat} {lf : List Int32} {rt : List Int32} {wt : List Int64} {ja : List Int32} {jb : List Int32}, dm_ckn e0 s0 e sc su jc rd br kd tg sy sz lt wg st nm lf rt wt ja jb = true → post (env e) (sc, su, jc, rd, br, dm_f kd, dm_f tg, dm_f sy, dm_f sz, dm_f lt, dm_f wg, dm_f st, dm_n env nm, dm_f lf, dm_f rt, dm_l wt, dm_f ja, dm_f jb) := by
  intro e sc su jc rd br kd tg sy sz lt wg st nm lf rt wt ja jb h
  obtain ⟨a0, h0⟩ := dm_an h
  obtain ⟨a1, h1⟩ := dm_an h0
  obtain ⟨a2, h2⟩ := dm_an h1
  obtain ⟨a3, h3⟩ := dm_an h2
  obtain ⟨a4, h4⟩ := dm_an h3
  obtain ⟨a5, h5⟩ := dm_an h4
  obtain ⟨a6, h6⟩ := dm_an h5
  obtain ⟨a7, h7⟩ := dm_an h6
  obtain ⟨a8, h8⟩ := dm_an h7
  obtain ⟨a9, h9⟩ := dm_an h8
  obtain ⟨a10, h10⟩ := dm_an h9
  obtain ⟨a11, h11⟩ := dm_an h10
  obtain ⟨a12, h12⟩ := dm_an h11
  obtain ⟨a13, h13⟩ := dm_an h12
  obtain ⟨a14, h14⟩ := dm_an h13
  obtain ⟨a15, h15⟩ := dm_an h14
  obtain ⟨a16, h16⟩ := dm_an h15
  obtain ⟨a17, h17⟩ := dm_an h16
  have b0 := of_decide_eq_true a0
  have b1 := of_decide_eq_true a1
  have b2 := of_decide_eq_true a2
  have b3 := of_decide_eq_true a3
  have b4 := of_decide_eq_true a4
  have b5 := of_decide_eq_true a5
  have b6 := of_decide_eq_true a6
  have b7 := of_decide_eq_true a7
  have b8 := of_decide_eq_true a8
  have b9 := of_decide_eq_true a9
  have b10 := of_decide_eq_true a10
  have b11 := of_decide_eq_true a11
  have b12 := of_decide_eq_true a12
  have b13 := of_decide_eq_true a13
  have b14 := of_decide_eq_true a14
  have b15 := of_decide_eq_true a15
  have b16 := of_decide_eq_true a16
  have b17 := of_decide_eq_true a17
  have b18 := of_decide_eq_true h17
  subst b0
  subst b1
  subst b2
  subst b3
  subst b4
  subst b5
  subst b6
  subst b7
  subst b8
  subst b9
  subst b10
  subst b11
  subst b12
  subst b13
  subst b14
  subst b15
  subst b16
  subst b17
  subst b18
  exact hp
theorem dm_told (he : env 4 = env 1 + env 2) (hn : ¬ env 3 = env 2) {post : Int32 → St2 → Prop} {s s0 : dm_S} {x1 x2 x3 x4 r0 : Int32} {c : Nat} (h : dm_tellS s x1 x2 x3 x4 c r0 s0 = true) (g : ¬ x1 = 1) (hp : post r0 (dm_cv env s0)) :
    wpX_tell post (dm_cv env s) x1 x2 x3 x4 := dm_tell_ok he hn (fun _ => rfl) (fun z => absurd z g) h (dm_ck_ok hp)
theorem dm_toldI (he : env 4 = env 1 + env 2) (hn : ¬ env 3 = env 2) {post : Int32 → St2 → Prop} {s s0 : dm_S} {x2 x3 x4 r0 : Int32} {c : Nat} (h : dm_tellS s 1 x2 x3 x4 c r0 s0 = true) (hp : post r0 (dm_cv env s0)) :
    wpX_tell post (dm_cv env s) 1 x2 (env c) x4 := dm_tell_ok he hn (fun z => absurd rfl z) (fun _ => rfl) h (dm_ck_ok hp)
theorem dm_lkd {post : Int32 → St2 → Prop} {s s0 : dm_S} {x y r0 : Int32} (h : dm_lkS s x y r0 s0 = true) (hp : post r0 (dm_cv env s0)) : wpX_linked post (dm_cv env s) x y := dm_lk_ok h (dm_ck_ok hp)
theorem dm_std {post : Int32 → St2 → Prop} {s s0 : dm_S} {x r0 : Int32} (h : dm_stS s x r0 s0 = true) (hp : post r0 (dm_cv env s0)) : wpX_state post (dm_cv env s) x := dm_st_ok h (dm_ck_ok hp)
theorem dm_vald (h0 : env 0 = 0) {post : Int32 → St2 → Prop} {s s0 : dm_S} {x : Int32} {e0 : Nat} (h : dm_valS s x e0 s0 = true) (hp : post (env e0) (dm_cv env s0)) : wpX_value post (dm_cv env s) x := dm_val_ok h0 h (dm_ckn_ok hp)
theorem dm_ptd {post : Int32 → St2 → Prop} {s s0 : dm_S} {x p r0 : Int32} (h : dm_ptS s x p r0 s0 = true) (hp : post r0 (dm_cv env s0)) : wpX_part post (dm_cv env s) x p := dm_pt_ok h (dm_ck_ok hp)
theorem dm_clrd {post : Int32 → St2 → Prop} {s s0 : dm_S} {r0 : Int32} (h : dm_clrS s r0 s0 = true) (hp : post r0 (dm_cv env s0)) : wpX_clear post (dm_cv env s) := dm_clr_ok h (dm_ck_ok hp)
theorem dm_wtd {post : Int32 → Prop} {s : dm_S} {r0 : Int32} (h : dm_waitS s r0 = true) (hp : post r0) : wpX_waiting post (dm_cv env s) := dm_wait_ok h (fun r h => by
  rw [of_decide_eq_true h]
  exact hp)
theorem dm_csd {post : Int32 → Prop} {s : dm_S} {r0 : Int32} (h : dm_clsS s r0 = true) (hp : post r0) : wpX_classes post (dm_cv env s) := dm_cls_ok h (fun r h => by
  rw [of_decide_eq_true h]
  exact hp)
theorem dm_made (h0 : env 0 = 0) {post : St2 → Prop} {s0 : dm_S} (h : dm_rs (fun lt wg st wt => dm_ck 0 s0 0 0 0 0 0 0 ([]) ([]) ([]) ([]) lt wg st ([]) ([]) ([]) wt ([]) ([])) 14 0 [] [] [] [] = true) (hp : post (dm_cv env s0)) :
    wpX_init post 13 324 (0, 0, 0, 0, 0) := by
  have e : ((0, 0, 0, 0, 0, (fun _ => 0), (fun _ => 0), (fun _ => 0), (fun _ => 0), (fun _ => 0), (fun _ => 0), (fun _ => 0), (fun _ => 0), (fun _ => 0), (fun _ => 0), (fun _ => 0), (fun _ => 0), (fun _ => 0)) : St2)
      = (0, 0, 0, 0, 0, dm_f ([]), dm_f ([]), dm_f ([]), dm_f ([]), dm_f ([]), dm_f ([]), dm_f ([]), dm_n env ([]), dm_f ([]), dm_f ([]), dm_l ([]), dm_f ([]), dm_f ([])) := by
    rw [← dm_f0, ← dm_l0, ← dm_n0 h0]
  unfold wpX_init
  refine ⟨by decide, by decide, by decide, by decide, by decide, by decide, by decide, by decide, by decide, by decide, by decide, by decide, by decide, by decide, by decide, by decide, by decide, by decide, by decide, by decide, by decide, by decide, by decide, by decide, by decide, by decide, ?_⟩
  rw [e]
  exact dm_rs_ok h (fun lt wg st wt h => dm_ck_ok (post := fun _ u => post u) hp h)
end
end
section
def ds_0 : dm_S := (0, 0, 0, 0, 0, [], [], [], [], [0, 1, 2, 3, 4, 5, 6, 7, 8, 9, 10, 11], [1, 1, 1, 1, 1, 1, 1, 1, 1, 1, 1, 1], [0, 0, 0, 0, 0, 0, 0, 0, 0, 0, 0, 0], [], [], [], [0, 0, 0, 0, 0, 0, 0, 0, 0, 0, 0, 0], [], [])
def ds_1 : dm_S := (1, 0, 0, 0, 0, [2], [0], [], [], [0, 1, 2, 3, 4, 5, 6, 7, 8, 9, 10, 11], [1, 1, 1, 1, 1, 1, 1, 1, 1, 1, 1, 1], [2, 0, 0, 0, 0, 0, 0, 0, 0, 0, 0, 0], [], [1], [2], [0, 0, 0, 0, 0, 0, 0, 0, 0, 0, 0, 0], [], [])
def ds_2 : dm_S := (2, 0, 0, 0, 0, [2, 2], [0, 3], [], [], [0, 1, 2, 3, 4, 5, 6, 7, 8, 9, 10, 11], [1, 1, 1, 1, 1, 1, 1, 1, 1, 1, 1, 1], [2, 0, 0, 2, 0, 0, 0, 0, 0, 0, 0, 0], [], [1, 0, 0, 4], [2, 0, 0, 5], [0, 0, 0, 0, 0, 0, 0, 0, 0, 0, 0, 0], [], [])
def ds_3 : dm_S := (3, 4, 0, 0, 0, [2, 2, 3], [0, 3, 6], [0, 0, 4], [0, 0, 2], [0, 1, 2, 3, 4, 5, 6, 7, 8, 9, 10, 11], [1, 1, 1, 1, 1, 1, 1, 1, 1, 1, 1, 1], [2, 0, 0, 2, 0, 0, 0, 0, 0, 0, 0, 0], [], [1, 0, 0, 4], [2, 0, 0, 5], [0, 0, 0, 0, 4, 0, 0, 0, 0, 0, 0, 0], [], [])
def ds_4 : dm_S := (4, 12, 0, 0, 0, [2, 2, 3, 5], [0, 3, 6, 7], [0, 0, 4, 8], [0, 0, 2, 8], [0, 1, 2, 3, 4, 5, 6, 7, 8, 9, 10, 11], [1, 1, 1, 1, 1, 1, 1, 1, 1, 1, 1, 1], [2, 0, 0, 2, 0, 0, 0, 0, 0, 0, 0, 0], [], [1, 0, 0, 4], [2, 0, 0, 5], [0, 0, 0, 0, 4, 0, 0, 0, 8, 0, 0, 0], [], [])
def ds_5 : dm_S := (5, 4, 0, 0, 0, [2, 2, 3, 5, 0], [0, 3, 6, 7, 8], [0, 0, 4, 8], [0, 0, 2, 8], [8, 7, 2, 3, 4, 5, 6, 7, 8, 9, 10, 11], [1, 1, 1, 1, 1, 1, 1, 2, 2, 1, 1, 1], [2, 0, 0, 2, 0, 0, 0, 0, 2, 0, 0, 0], [], [1, 0, 0, 4, 0, 0, 0, 0, 1], [2, 0, 0, 5, 0, 0, 0, 0, 2], [0, 0, 0, 0, 4, 0, 0, 0, 0, 0, 0, 0], [7], [1])
def ds_6 : dm_S := (6, 4, 0, 0, 0, [2, 2, 3, 5, 0, 1], [0, 3, 6, 7, 8, 1], [0, 0, 4, 8], [0, 0, 2, 8], [8, 7, 2, 3, 4, 5, 6, 7, 8, 9, 10, 11], [1, 1, 1, 1, 1, 1, 1, 2, 2, 1, 1, 1], [2, 0, 0, 2, 0, 0, 0, 1, 2, 0, 0, 0], [0, 0, 0, 0, 0, 0, 0, 1], [1, 0, 0, 4, 0, 0, 0, 0, 1], [2, 0, 0, 5, 0, 0, 0, 0, 2], [0, 0, 0, 0, 4, 0, 0, 0, 0, 0, 0, 0], [7], [1])
def ds_7 : dm_S := (7, 4, 0, 0, 0, [2, 2, 3, 5, 0, 1, 1], [0, 3, 6, 7, 8, 1, 5], [0, 0, 4, 8], [0, 0, 2, 8], [8, 7, 2, 3, 4, 5, 6, 7, 8, 9, 10, 11], [1, 1, 1, 1, 1, 1, 1, 2, 2, 1, 1, 1], [2, 0, 0, 2, 0, 1, 0, 1, 2, 0, 0, 0], [0, 0, 0, 0, 0, 2, 0, 1], [1, 0, 0, 4, 0, 0, 0, 0, 1], [2, 0, 0, 5, 0, 0, 0, 0, 2], [0, 0, 0, 0, 4, 0, 0, 0, 0, 0, 0, 0], [7], [1])
def ds_8 : dm_S := (8, 0, 0, 0, 0, [2, 2, 3, 5, 0, 1, 1, 0], [0, 3, 6, 7, 8, 1, 5, 3], [0, 0, 4, 8], [0, 0, 2, 8], [8, 7, 2, 8, 7, 2, 6, 7, 8, 9, 10, 11], [1, 1, 2, 1, 1, 1, 1, 3, 3, 1, 1, 1], [2, 0, 1, 2, 0, 1, 1, 1, 2, 0, 0, 0], [0, 0, 2, 0, 0, 2, 4, 1], [1, 0, 0, 4, 0, 0, 0, 0, 1], [2, 0, 0, 5, 0, 0, 0, 0, 2], [0, 0, 0, 0, 4, 0, 0, 0, 0, 0, 0, 0], [1, 2], [4, 5])
def ds_9 : dm_S := (9, 0, 0, 0, 0, [2, 2, 3, 5, 0, 1, 1, 0, 2], [0, 3, 6, 7, 8, 1, 5, 3, 9], [0, 0, 4, 8], [0, 0, 2, 8], [8, 7, 2, 8, 7, 2, 6, 7, 8, 9, 10, 11], [1, 1, 2, 1, 1, 1, 1, 3, 3, 1, 1, 1], [2, 0, 1, 2, 0, 1, 1, 1, 2, 2, 0, 0], [0, 0, 2, 0, 0, 2, 4, 1], [1, 0, 0, 4, 0, 0, 0, 0, 1, 9], [2, 0, 0, 5, 0, 0, 0, 0, 2, 10], [0, 0, 0, 0, 4, 0, 0, 0, 0, 0, 0, 0], [1, 2], [4, 5])
def ds_10 : dm_S := (10, 0, 0, 0, 0, [2, 2, 3, 5, 0, 1, 1, 0, 2, 6], [0, 3, 6, 7, 8, 1, 5, 3, 9, 11], [0, 0, 4, 8, 0, 0, 0, 0, 0, 9], [0, 0, 2, 8, 0, 0, 0, 0, 0, 9], [8, 7, 2, 8, 7, 2, 6, 7, 8, 9, 11, 11], [1, 1, 2, 1, 1, 1, 1, 3, 3, 1, 1, 2], [2, 0, 1, 2, 0, 1, 1, 1, 2, 2, 0, 0], [0, 0, 2, 0, 0, 2, 4, 1], [1, 0, 0, 4, 0, 0, 0, 0, 1, 9], [2, 0, 0, 5, 0, 0, 0, 0, 2, 10], [0, 0, 0, 0, 4, 0, 0, 0, 0, 0, 0, 0], [11, 2], [10, 5])
def ds_11 : dm_S := (11, 0, 0, 0, 0, [2, 2, 3, 5, 0, 1, 1, 0, 2, 6, 1], [0, 3, 6, 7, 8, 1, 5, 3, 9, 11, 11], [0, 0, 4, 8, 0, 0, 0, 0, 0, 9], [0, 0, 2, 8, 0, 0, 0, 0, 0, 9], [8, 7, 2, 8, 7, 2, 6, 7, 8, 9, 11, 11], [1, 1, 2, 1, 1, 1, 1, 3, 3, 1, 1, 2], [2, 0, 1, 2, 0, 1, 1, 1, 2, 2, 0, 1], [0, 0, 2, 0, 0, 2, 4, 1, 0, 0, 0, 2], [1, 0, 0, 4, 0, 0, 0, 0, 1, 9], [2, 0, 0, 5, 0, 0, 0, 0, 2, 10], [0, 0, 0, 0, 4, 0, 0, 0, 0, 0, 0, 0], [11, 2], [10, 5])
def ds_12 : dm_S := (12, 0, 0, 0, 0, [2, 2, 3, 5, 0, 1, 1, 0, 2, 6, 1, 0], [0, 3, 6, 7, 8, 1, 5, 3, 9, 11, 11, 10], [0, 0, 4, 8, 0, 0, 0, 0, 0, 9], [0, 0, 2, 8, 0, 0, 0, 0, 0, 9], [8, 7, 11, 8, 7, 2, 6, 7, 8, 9, 11, 11], [1, 1, 2, 1, 1, 1, 1, 3, 3, 1, 1, 4], [2, 0, 1, 2, 0, 1, 1, 1, 2, 2, 0, 1], [0, 0, 2, 0, 0, 2, 4, 1, 0, 0, 0, 2], [1, 0, 0, 4, 0, 0, 0, 0, 1, 9], [2, 0, 0, 5, 0, 0, 0, 0, 2, 10], [0, 0, 0, 0, 4, 0, 0, 0, 0, 0, 0, 0], [10, 2], [5, 5])
def ds_13 : dm_S := (13, 0, 0, 0, 1, [2, 2, 3, 5, 0, 1, 1, 0, 2, 6, 1, 0, 0], [0, 3, 6, 7, 8, 1, 5, 3, 9, 11, 11, 10, 9], [0, 0, 4, 8, 0, 0, 0, 0, 0, 9], [0, 0, 2, 8, 0, 0, 0, 0, 0, 9], [8, 7, 11, 8, 7, 2, 6, 7, 8, 7, 11, 11], [1, 1, 2, 1, 1, 1, 1, 4, 3, 1, 1, 4], [2, 0, 1, 2, 0, 1, 1, 1, 2, 2, 0, 1], [0, 0, 2, 0, 0, 2, 4, 1, 0, 0, 0, 2], [1, 0, 0, 4, 0, 0, 0, 0, 1, 9], [2, 0, 0, 5, 0, 0, 0, 0, 2, 10], [0, 0, 0, 0, 4, 0, 0, 0, 0, 0, 0, 0], [9, 2], [1, 5])
def ds_14 : dm_S := (0, 0, 0, 0, 0, [2, 2, 3, 5, 0, 1, 1, 0, 2, 6, 1, 0, 0], [0, 3, 6, 7, 8, 1, 5, 3, 9, 11, 11, 10, 9], [0, 0, 4, 8, 0, 0, 0, 0, 0, 9], [0, 0, 2, 8, 0, 0, 0, 0, 0, 9], [0, 1, 2, 3, 4, 5, 6, 7, 8, 9, 10, 11], [1, 1, 1, 1, 1, 1, 1, 1, 1, 1, 1, 1], [0, 0, 0, 0, 0, 0, 0, 0, 0, 0, 0, 0], [0, 0, 2, 0, 0, 2, 4, 1, 0, 0, 0, 2], [1, 0, 0, 4, 0, 0, 0, 0, 1, 9], [2, 0, 0, 5, 0, 0, 0, 0, 2, 10], [0, 0, 0, 0, 0, 0, 0, 0, 0, 0, 0, 0], [9, 2], [1, 5])
def ds_15 : dm_S := (11, 0, 0, 0, 0, [2, 2, 3, 5, 0, 1, 1, 0, 2, 6, 1], [0, 3, 6, 7, 8, 1, 5, 3, 9, 11, 11], [0, 0, 4, 8, 0, 0, 0, 0, 0, 9], [0, 0, 2, 8, 0, 0, 0, 0, 0, 9], [8, 7, 2, 8, 7, 2, 6, 7, 8, 9, 11, 11], [1, 1, 2, 1, 1, 1, 1, 3, 3, 1, 1, 2], [2, 0, 1, 2, 0, 1, 1, 1, 2, 2, 0, 1], [0, 0, 2, 0, 0, 2, 4, 1, 0, 0, 0, 3], [1, 0, 0, 4, 0, 0, 0, 0, 1, 9], [2, 0, 0, 5, 0, 0, 0, 0, 2, 10], [0, 0, 0, 0, 4, 0, 0, 0, 0, 0, 0, 0], [11, 2], [10, 5])
def ds_16 : dm_S := (12, 0, 0, 0, 1, [2, 2, 3, 5, 0, 1, 1, 0, 2, 6, 1, 0], [0, 3, 6, 7, 8, 1, 5, 3, 9, 11, 11, 10], [0, 0, 4, 8, 0, 0, 0, 0, 0, 9], [0, 0, 2, 8, 0, 0, 0, 0, 0, 9], [8, 7, 11, 8, 7, 2, 6, 7, 8, 9, 11, 11], [1, 1, 2, 1, 1, 1, 1, 3, 3, 1, 1, 4], [2, 0, 1, 2, 0, 1, 1, 1, 2, 2, 0, 1], [0, 0, 2, 0, 0, 2, 4, 1, 0, 0, 0, 3], [1, 0, 0, 4, 0, 0, 0, 0, 1, 9], [2, 0, 0, 5, 0, 0, 0, 0, 2, 10], [0, 0, 0, 0, 4, 0, 0, 0, 0, 0, 0, 0], [10, 2], [5, 5])
def ds_17 : dm_S := (0, 0, 0, 0, 0, [2, 2, 3, 5, 0, 1, 1, 0, 2, 6, 1, 0], [0, 3, 6, 7, 8, 1, 5, 3, 9, 11, 11, 10], [0, 0, 4, 8, 0, 0, 0, 0, 0, 9], [0, 0, 2, 8, 0, 0, 0, 0, 0, 9], [0, 1, 2, 3, 4, 5, 6, 7, 8, 9, 10, 11], [1, 1, 1, 1, 1, 1, 1, 1, 1, 1, 1, 1], [0, 0, 0, 0, 0, 0, 0, 0, 0, 0, 0, 0], [0, 0, 2, 0, 0, 2, 4, 1, 0, 0, 0, 3], [1, 0, 0, 4, 0, 0, 0, 0, 1, 9], [2, 0, 0, 5, 0, 0, 0, 0, 2, 10], [0, 0, 0, 0, 0, 0, 0, 0, 0, 0, 0, 0], [10, 2], [5, 5])
def ds_18 : dm_S := (5, 12, 0, 0, 0, [2, 2, 3, 5, 1], [0, 3, 6, 7, 1], [0, 0, 4, 8], [0, 0, 2, 8], [0, 1, 2, 3, 4, 5, 6, 7, 8, 9, 10, 11], [1, 1, 1, 1, 1, 1, 1, 1, 1, 1, 1, 1], [2, 1, 0, 2, 0, 0, 0, 0, 0, 0, 0, 0], [0, 1], [1, 0, 0, 4], [2, 0, 0, 5], [0, 0, 0, 0, 4, 0, 0, 0, 8, 0, 0, 0], [], [])
def ds_19 : dm_S := (6, 12, 0, 0, 0, [2, 2, 3, 5, 1, 1], [0, 3, 6, 7, 1, 5], [0, 0, 4, 8], [0, 0, 2, 8], [0, 1, 2, 3, 4, 5, 6, 7, 8, 9, 10, 11], [1, 1, 1, 1, 1, 1, 1, 1, 1, 1, 1, 1], [2, 1, 0, 2, 0, 1, 0, 0, 0, 0, 0, 0], [0, 1, 0, 0, 0, 2], [1, 0, 0, 4], [2, 0, 0, 5], [0, 0, 0, 0, 4, 0, 0, 0, 8, 0, 0, 0], [], [])
def ds_20 : dm_S := (7, 4, 0, 0, 0, [2, 2, 3, 5, 1, 1, 0], [0, 3, 6, 7, 1, 5, 0], [0, 0, 4, 8], [0, 0, 2, 8], [0, 7, 2, 3, 4, 5, 6, 7, 0, 9, 10, 11], [2, 1, 1, 1, 1, 1, 1, 2, 1, 1, 1, 1], [2, 1, 0, 2, 0, 1, 0, 1, 0, 0, 0, 0], [0, 1, 0, 0, 0, 2, 0, 1], [1, 0, 0, 4], [2, 0, 0, 5], [0, 0, 0, 0, 4, 0, 0, 0, 8, 0, 0, 0], [7], [1])
def ds_21 : dm_S := (8, 0, 0, 0, 0, [2, 2, 3, 5, 1, 1, 0, 0], [0, 3, 6, 7, 1, 5, 0, 3], [0, 0, 4, 8], [0, 0, 2, 8], [0, 7, 2, 0, 7, 2, 6, 7, 0, 9, 10, 11], [3, 1, 2, 1, 1, 1, 1, 3, 1, 1, 1, 1], [2, 1, 1, 2, 0, 1, 1, 1, 0, 0, 0, 0], [0, 1, 2, 0, 0, 2, 4, 1], [1, 0, 0, 4], [2, 0, 0, 5], [0, 0, 0, 0, 4, 0, 0, 0, 8, 0, 0, 0], [1, 2], [4, 5])
def ds_22 : dm_S := (9, 0, 0, 0, 0, [2, 2, 3, 5, 1, 1, 0, 0, 2], [0, 3, 6, 7, 1, 5, 0, 3, 9], [0, 0, 4, 8], [0, 0, 2, 8], [0, 7, 2, 0, 7, 2, 6, 7, 0, 9, 10, 11], [3, 1, 2, 1, 1, 1, 1, 3, 1, 1, 1, 1], [2, 1, 1, 2, 0, 1, 1, 1, 0, 2, 0, 0], [0, 1, 2, 0, 0, 2, 4, 1], [1, 0, 0, 4, 0, 0, 0, 0, 0, 9], [2, 0, 0, 5, 0, 0, 0, 0, 0, 10], [0, 0, 0, 0, 4, 0, 0, 0, 8, 0, 0, 0], [1, 2], [4, 5])
def ds_23 : dm_S := (10, 0, 0, 0, 0, [2, 2, 3, 5, 1, 1, 0, 0, 2, 6], [0, 3, 6, 7, 1, 5, 0, 3, 9, 11], [0, 0, 4, 8, 0, 0, 0, 0, 0, 9], [0, 0, 2, 8, 0, 0, 0, 0, 0, 9], [0, 7, 2, 0, 7, 2, 6, 7, 0, 9, 11, 11], [3, 1, 2, 1, 1, 1, 1, 3, 1, 1, 1, 2], [2, 1, 1, 2, 0, 1, 1, 1, 0, 2, 0, 0], [0, 1, 2, 0, 0, 2, 4, 1], [1, 0, 0, 4, 0, 0, 0, 0, 0, 9], [2, 0, 0, 5, 0, 0, 0, 0, 0, 10], [0, 0, 0, 0, 4, 0, 0, 0, 8, 0, 0, 0], [11, 2], [10, 5])
def ds_24 : dm_S := (11, 0, 0, 0, 0, [2, 2, 3, 5, 1, 1, 0, 0, 2, 6, 1], [0, 3, 6, 7, 1, 5, 0, 3, 9, 11, 11], [0, 0, 4, 8, 0, 0, 0, 0, 0, 9], [0, 0, 2, 8, 0, 0, 0, 0, 0, 9], [0, 7, 2, 0, 7, 2, 6, 7, 0, 9, 11, 11], [3, 1, 2, 1, 1, 1, 1, 3, 1, 1, 1, 2], [2, 1, 1, 2, 0, 1, 1, 1, 0, 2, 0, 1], [0, 1, 2, 0, 0, 2, 4, 1, 0, 0, 0, 2], [1, 0, 0, 4, 0, 0, 0, 0, 0, 9], [2, 0, 0, 5, 0, 0, 0, 0, 0, 10], [0, 0, 0, 0, 4, 0, 0, 0, 8, 0, 0, 0], [11, 2], [10, 5])
def ds_25 : dm_S := (12, 0, 0, 0, 0, [2, 2, 3, 5, 1, 1, 0, 0, 2, 6, 1, 0], [0, 3, 6, 7, 1, 5, 0, 3, 9, 11, 11, 10], [0, 0, 4, 8, 0, 0, 0, 0, 0, 9], [0, 0, 2, 8, 0, 0, 0, 0, 0, 9], [0, 7, 11, 0, 7, 2, 6, 7, 0, 9, 11, 11], [3, 1, 2, 1, 1, 1, 1, 3, 1, 1, 1, 4], [2, 1, 1, 2, 0, 1, 1, 1, 0, 2, 0, 1], [0, 1, 2, 0, 0, 2, 4, 1, 0, 0, 0, 2], [1, 0, 0, 4, 0, 0, 0, 0, 0, 9], [2, 0, 0, 5, 0, 0, 0, 0, 0, 10], [0, 0, 0, 0, 4, 0, 0, 0, 8, 0, 0, 0], [10, 2], [5, 5])
def ds_26 : dm_S := (13, 0, 0, 0, 1, [2, 2, 3, 5, 1, 1, 0, 0, 2, 6, 1, 0, 0], [0, 3, 6, 7, 1, 5, 0, 3, 9, 11, 11, 10, 9], [0, 0, 4, 8, 0, 0, 0, 0, 0, 9], [0, 0, 2, 8, 0, 0, 0, 0, 0, 9], [0, 7, 11, 0, 7, 2, 6, 7, 0, 7, 11, 11], [3, 1, 2, 1, 1, 1, 1, 4, 1, 1, 1, 4], [2, 1, 1, 2, 0, 1, 1, 1, 0, 2, 0, 1], [0, 1, 2, 0, 0, 2, 4, 1, 0, 0, 0, 2], [1, 0, 0, 4, 0, 0, 0, 0, 0, 9], [2, 0, 0, 5, 0, 0, 0, 0, 0, 10], [0, 0, 0, 0, 4, 0, 0, 0, 8, 0, 0, 0], [9, 2], [1, 5])
def ds_27 : dm_S := (0, 0, 0, 0, 0, [2, 2, 3, 5, 1, 1, 0, 0, 2, 6, 1, 0, 0], [0, 3, 6, 7, 1, 5, 0, 3, 9, 11, 11, 10, 9], [0, 0, 4, 8, 0, 0, 0, 0, 0, 9], [0, 0, 2, 8, 0, 0, 0, 0, 0, 9], [0, 1, 2, 3, 4, 5, 6, 7, 8, 9, 10, 11], [1, 1, 1, 1, 1, 1, 1, 1, 1, 1, 1, 1], [0, 0, 0, 0, 0, 0, 0, 0, 0, 0, 0, 0], [0, 1, 2, 0, 0, 2, 4, 1, 0, 0, 0, 2], [1, 0, 0, 4, 0, 0, 0, 0, 0, 9], [2, 0, 0, 5, 0, 0, 0, 0, 0, 10], [0, 0, 0, 0, 0, 0, 0, 0, 0, 0, 0, 0], [9, 2], [1, 5])
def ds_28 : dm_S := (11, 0, 0, 0, 0, [2, 2, 3, 5, 1, 1, 0, 0, 2, 6, 1], [0, 3, 6, 7, 1, 5, 0, 3, 9, 11, 11], [0, 0, 4, 8, 0, 0, 0, 0, 0, 9], [0, 0, 2, 8, 0, 0, 0, 0, 0, 9], [0, 7, 2, 0, 7, 2, 6, 7, 0, 9, 11, 11], [3, 1, 2, 1, 1, 1, 1, 3, 1, 1, 1, 2], [2, 1, 1, 2, 0, 1, 1, 1, 0, 2, 0, 1], [0, 1, 2, 0, 0, 2, 4, 1, 0, 0, 0, 3], [1, 0, 0, 4, 0, 0, 0, 0, 0, 9], [2, 0, 0, 5, 0, 0, 0, 0, 0, 10], [0, 0, 0, 0, 4, 0, 0, 0, 8, 0, 0, 0], [11, 2], [10, 5])
def ds_29 : dm_S := (12, 0, 0, 0, 1, [2, 2, 3, 5, 1, 1, 0, 0, 2, 6, 1, 0], [0, 3, 6, 7, 1, 5, 0, 3, 9, 11, 11, 10], [0, 0, 4, 8, 0, 0, 0, 0, 0, 9], [0, 0, 2, 8, 0, 0, 0, 0, 0, 9], [0, 7, 11, 0, 7, 2, 6, 7, 0, 9, 11, 11], [3, 1, 2, 1, 1, 1, 1, 3, 1, 1, 1, 4], [2, 1, 1, 2, 0, 1, 1, 1, 0, 2, 0, 1], [0, 1, 2, 0, 0, 2, 4, 1, 0, 0, 0, 3], [1, 0, 0, 4, 0, 0, 0, 0, 0, 9], [2, 0, 0, 5, 0, 0, 0, 0, 0, 10], [0, 0, 0, 0, 4, 0, 0, 0, 8, 0, 0, 0], [10, 2], [5, 5])
def ds_30 : dm_S := (0, 0, 0, 0, 0, [2, 2, 3, 5, 1, 1, 0, 0, 2, 6, 1, 0], [0, 3, 6, 7, 1, 5, 0, 3, 9, 11, 11, 10], [0, 0, 4, 8, 0, 0, 0, 0, 0, 9], [0, 0, 2, 8, 0, 0, 0, 0, 0, 9], [0, 1, 2, 3, 4, 5, 6, 7, 8, 9, 10, 11], [1, 1, 1, 1, 1, 1, 1, 1, 1, 1, 1, 1], [0, 0, 0, 0, 0, 0, 0, 0, 0, 0, 0, 0], [0, 1, 2, 0, 0, 2, 4, 1, 0, 0, 0, 3], [1, 0, 0, 4, 0, 0, 0, 0, 0, 9], [2, 0, 0, 5, 0, 0, 0, 0, 0, 10], [0, 0, 0, 0, 0, 0, 0, 0, 0, 0, 0, 0], [10, 2], [5, 5])
theorem dl_new : dm_rs (fun lt wg st wt => dm_ck 0 ds_0 0 0 0 0 0 0 [] [] [] [] lt wg st [] [] [] wt [] []) 14 0 [] [] [] [] = true := by decide +kernel
theorem de_0 : dm_tellS ds_0 2 0 1 2 0 1 ds_1 = true := by decide +kernel
theorem de_1 : dm_tellS ds_1 2 3 4 5 0 2 ds_2 = true := by decide +kernel
theorem de_2 : dm_tellS ds_2 3 6 4 2 0 3 ds_3 = true := by decide +kernel
theorem de_3 : dm_tellS ds_3 5 7 8 0 0 4 ds_4 = true := by decide +kernel
theorem de_4 : dm_tellS ds_4 0 8 0 0 0 5 ds_5 = true := by decide +kernel
theorem de_5 : dm_tellS ds_5 1 1 0 0 1 6 ds_6 = true := by decide +kernel
theorem de_6 : dm_tellS ds_6 1 5 0 0 2 7 ds_7 = true := by decide +kernel
theorem de_7 : dm_waitS ds_7 1 = true := by decide +kernel
theorem de_8 : dm_lkS ds_7 1 4 0 ds_7 = true := by decide +kernel
theorem de_9 : dm_stS ds_7 6 0 ds_7 = true := by decide +kernel
theorem de_10 : dm_tellS ds_7 0 3 8 0 0 8 ds_8 = true := by decide +kernel
theorem de_11 : dm_lkS ds_8 1 4 1 ds_8 = true := by decide +kernel
theorem de_12 : dm_lkS ds_8 2 5 1 ds_8 = true := by decide +kernel
theorem de_13 : dm_lkS ds_8 7 4 1 ds_8 = true := by decide +kernel
theorem de_14 : dm_lkS ds_8 1 2 0 ds_8 = true := by decide +kernel
theorem de_15 : dm_lkS ds_8 0 3 1 ds_8 = true := by decide +kernel
theorem de_16 : dm_valS ds_8 6 4 ds_8 = true := by decide +kernel
theorem de_17 : dm_valS ds_8 2 2 ds_8 = true := by decide +kernel
theorem de_18 : dm_valS ds_8 7 1 ds_8 = true := by decide +kernel
theorem de_19 : dm_waitS ds_8 0 = true := by decide +kernel
theorem de_20 : dm_clsS ds_8 7 = true := by decide +kernel
theorem de_21 : dm_ptS ds_8 8 0 1 ds_8 = true := by decide +kernel
theorem de_22 : dm_ptS ds_8 3 1 2 ds_8 = true := by decide +kernel
theorem de_23 : dm_stS ds_8 0 2 ds_8 = true := by decide +kernel
theorem de_24 : dm_ptS ds_8 1 0 (-1) ds_8 = true := by decide +kernel
theorem de_25 : dm_tellS ds_8 2 9 9 10 0 9 ds_9 = true := by decide +kernel
theorem de_26 : dm_tellS ds_9 6 11 9 0 0 10 ds_10 = true := by decide +kernel
theorem de_27 : dm_lkS ds_10 10 11 1 ds_10 = true := by decide +kernel
theorem de_28 : dm_ptS ds_10 9 0 9 ds_10 = true := by decide +kernel
theorem de_29 : dm_tellS ds_10 1 11 0 0 2 11 ds_11 = true := by decide +kernel
theorem de_30 : dm_valS ds_11 10 2 ds_11 = true := by decide +kernel
theorem de_31 : dm_tellS ds_11 0 10 5 0 0 12 ds_12 = true := by decide +kernel
theorem de_32 : dm_stS ds_12 0 2 ds_12 = true := by decide +kernel
theorem de_33 : dm_tellS ds_12 0 9 1 0 0 (-3) ds_13 = true := by decide +kernel
theorem de_34 : dm_waitS ds_13 (-3) = true := by decide +kernel
theorem de_35 : dm_lkS ds_13 0 0 0 ds_13 = true := by decide +kernel
theorem de_36 : dm_ptS ds_13 0 0 (-1) ds_13 = true := by decide +kernel
theorem de_37 : dm_clrS ds_13 13 ds_14 = true := by decide +kernel
theorem de_38 : dm_clsS ds_14 12 = true := by decide +kernel
theorem de_39 : dm_stS ds_14 9 0 ds_14 = true := by decide +kernel
theorem de_40 : dm_tellS ds_10 1 11 0 0 3 11 ds_15 = true := by decide +kernel
theorem de_41 : dm_valS ds_15 10 3 ds_15 = true := by decide +kernel
theorem de_42 : dm_tellS ds_15 0 10 5 0 0 (-3) ds_16 = true := by decide +kernel
theorem de_43 : dm_stS ds_16 0 (-3) ds_16 = true := by decide +kernel
theorem de_44 : dm_tellS ds_16 0 9 1 0 0 (-3) ds_16 = true := by decide +kernel
theorem de_45 : dm_waitS ds_16 (-3) = true := by decide +kernel
theorem de_46 : dm_lkS ds_16 0 0 0 ds_16 = true := by decide +kernel
theorem de_47 : dm_ptS ds_16 0 0 (-1) ds_16 = true := by decide +kernel
theorem de_48 : dm_clrS ds_16 12 ds_17 = true := by decide +kernel
theorem de_49 : dm_clsS ds_17 12 = true := by decide +kernel
theorem de_50 : dm_stS ds_17 9 0 ds_17 = true := by decide +kernel
theorem de_51 : dm_tellS ds_4 1 1 0 0 1 5 ds_18 = true := by decide +kernel
theorem de_52 : dm_tellS ds_18 1 5 0 0 2 6 ds_19 = true := by decide +kernel
theorem de_53 : dm_waitS ds_19 2 = true := by decide +kernel
theorem de_54 : dm_lkS ds_19 1 4 0 ds_19 = true := by decide +kernel
theorem de_55 : dm_stS ds_19 6 0 ds_19 = true := by decide +kernel
theorem de_56 : dm_tellS ds_19 0 0 8 0 0 7 ds_20 = true := by decide +kernel
theorem de_57 : dm_tellS ds_20 0 3 8 0 0 8 ds_21 = true := by decide +kernel
theorem de_58 : dm_lkS ds_21 1 4 1 ds_21 = true := by decide +kernel
theorem de_59 : dm_lkS ds_21 2 5 1 ds_21 = true := by decide +kernel
theorem de_60 : dm_lkS ds_21 7 4 1 ds_21 = true := by decide +kernel
theorem de_61 : dm_lkS ds_21 1 2 0 ds_21 = true := by decide +kernel
theorem de_62 : dm_lkS ds_21 0 3 1 ds_21 = true := by decide +kernel
theorem de_63 : dm_valS ds_21 6 4 ds_21 = true := by decide +kernel
theorem de_64 : dm_valS ds_21 2 2 ds_21 = true := by decide +kernel
theorem de_65 : dm_valS ds_21 7 1 ds_21 = true := by decide +kernel
theorem de_66 : dm_waitS ds_21 0 = true := by decide +kernel
theorem de_67 : dm_clsS ds_21 7 = true := by decide +kernel
theorem de_68 : dm_ptS ds_21 8 0 1 ds_21 = true := by decide +kernel
theorem de_69 : dm_ptS ds_21 3 1 2 ds_21 = true := by decide +kernel
theorem de_70 : dm_stS ds_21 0 2 ds_21 = true := by decide +kernel
theorem de_71 : dm_ptS ds_21 1 0 (-1) ds_21 = true := by decide +kernel
theorem de_72 : dm_tellS ds_21 2 9 9 10 0 9 ds_22 = true := by decide +kernel
theorem de_73 : dm_tellS ds_22 6 11 9 0 0 10 ds_23 = true := by decide +kernel
theorem de_74 : dm_lkS ds_23 10 11 1 ds_23 = true := by decide +kernel
theorem de_75 : dm_ptS ds_23 9 0 9 ds_23 = true := by decide +kernel
theorem de_76 : dm_tellS ds_23 1 11 0 0 2 11 ds_24 = true := by decide +kernel
theorem de_77 : dm_valS ds_24 10 2 ds_24 = true := by decide +kernel
theorem de_78 : dm_tellS ds_24 0 10 5 0 0 12 ds_25 = true := by decide +kernel
theorem de_79 : dm_stS ds_25 0 2 ds_25 = true := by decide +kernel
theorem de_80 : dm_tellS ds_25 0 9 1 0 0 (-3) ds_26 = true := by decide +kernel
theorem de_81 : dm_waitS ds_26 (-3) = true := by decide +kernel
theorem de_82 : dm_lkS ds_26 0 0 0 ds_26 = true := by decide +kernel
theorem de_83 : dm_ptS ds_26 0 0 (-1) ds_26 = true := by decide +kernel
theorem de_84 : dm_clrS ds_26 13 ds_27 = true := by decide +kernel
theorem de_85 : dm_clsS ds_27 12 = true := by decide +kernel
theorem de_86 : dm_stS ds_27 9 0 ds_27 = true := by decide +kernel
theorem de_87 : dm_tellS ds_23 1 11 0 0 3 11 ds_28 = true := by decide +kernel
theorem de_88 : dm_valS ds_28 10 3 ds_28 = true := by decide +kernel
theorem de_89 : dm_tellS ds_28 0 10 5 0 0 (-3) ds_29 = true := by decide +kernel
theorem de_90 : dm_stS ds_29 0 (-3) ds_29 = true := by decide +kernel
theorem de_91 : dm_tellS ds_29 0 9 1 0 0 (-3) ds_29 = true := by decide +kernel
theorem de_92 : dm_waitS ds_29 (-3) = true := by decide +kernel
theorem de_93 : dm_lkS ds_29 0 0 0 ds_29 = true := by decide +kernel
theorem de_94 : dm_ptS ds_29 0 0 (-1) ds_29 = true := by decide +kernel
theorem de_95 : dm_clrS ds_29 12 ds_30 = true := by decide +kernel
theorem de_96 : dm_clsS ds_30 12 = true := by decide +kernel
theorem de_97 : dm_stS ds_30 9 0 ds_30 = true := by decide +kernel
end
section
theorem dl_588_00 {env : Nat → Int32} (he : env 4 = env 1 + env 2) (hn : ¬ env 3 = env 2) (h0 : env 0 = 0) {post : Int32 → St0 → Prop} (hp : post 1 ()) (mc ms kc ks : Nat) :
    wL_lawOf_588 post mc ms 13 13 kc ks ds_14.1 ds_14.2.1 ds_14.2.2.1 ds_14.2.2.2.1 ds_14.2.2.2.2.1 (dm_f ds_14.2.2.2.2.2.1) (dm_f ds_14.2.2.2.2.2.2.1) (dm_f ds_14.2.2.2.2.2.2.2.1) (dm_f ds_14.2.2.2.2.2.2.2.2.1) (dm_f ds_14.2.2.2.2.2.2.2.2.2.1) (dm_f ds_14.2.2.2.2.2.2.2.2.2.2.1) (dm_f ds_14.2.2.2.2.2.2.2.2.2.2.2.1) (dm_n env ds_14.2.2.2.2.2.2.2.2.2.2.2.2.1) (dm_f ds_14.2.2.2.2.2.2.2.2.2.2.2.2.2.1) (dm_f ds_14.2.2.2.2.2.2.2.2.2.2.2.2.2.2.1) (dm_l ds_14.2.2.2.2.2.2.2.2.2.2.2.2.2.2.2.1) (dm_f ds_14.2.2.2.2.2.2.2.2.2.2.2.2.2.2.2.2.1) (dm_f ds_14.2.2.2.2.2.2.2.2.2.2.2.2.2.2.2.2.2) := by
  unfold wL_lawOf_588
  refine br_t rfl ?_
  refine dm_csd de_38 ?_
  refine br_t rfl ?_
  refine dm_std de_39 ?_
  exact br_t rfl hp
theorem dl_516_00 {env : Nat → Int32} (he : env 4 = env 1 + env 2) (hn : ¬ env 3 = env 2) (h0 : env 0 = 0) {post : Int32 → St0 → Prop} (hp : post 1 ()) (mc ms kc ks : Nat) :
    wL_lawOf_516 post mc ms 0 2 2 kc ks ds_12.1 ds_12.2.1 ds_12.2.2.1 ds_12.2.2.2.1 ds_12.2.2.2.2.1 (dm_f ds_12.2.2.2.2.2.1) (dm_f ds_12.2.2.2.2.2.2.1) (dm_f ds_12.2.2.2.2.2.2.2.1) (dm_f ds_12.2.2.2.2.2.2.2.2.1) (dm_f ds_12.2.2.2.2.2.2.2.2.2.1) (dm_f ds_12.2.2.2.2.2.2.2.2.2.2.1) (dm_f ds_12.2.2.2.2.2.2.2.2.2.2.2.1) (dm_n env ds_12.2.2.2.2.2.2.2.2.2.2.2.2.1) (dm_f ds_12.2.2.2.2.2.2.2.2.2.2.2.2.2.1) (dm_f ds_12.2.2.2.2.2.2.2.2.2.2.2.2.2.2.1) (dm_l ds_12.2.2.2.2.2.2.2.2.2.2.2.2.2.2.2.1) (dm_f ds_12.2.2.2.2.2.2.2.2.2.2.2.2.2.2.2.2.1) (dm_f ds_12.2.2.2.2.2.2.2.2.2.2.2.2.2.2.2.2.2) := by
  unfold wL_lawOf_516
  refine br_t rfl ?_
  refine dm_told he hn de_33 (by decide) ?_
  refine br_t rfl ?_
  refine dm_wtd de_34 ?_
  refine br_t rfl ?_
  refine dm_lkd de_35 ?_
  refine br_t rfl ?_
  refine dm_ptd de_36 ?_
  refine br_t rfl ?_
  refine dm_clrd de_37 ?_
  refine br_t rfl ?_
  exact dl_588_00 he hn h0 hp mc ms kc ks
theorem dl_484_00 {env : Nat → Int32} (he : env 4 = env 1 + env 2) (hn : ¬ env 3 = env 2) (h0 : env 0 = 0) {post : Int32 → St0 → Prop} (hp : post 1 ()) (mc ms kc ks : Nat) :
    wL_lawOf_484 post mc ms 0 12 12 kc ks ds_12.1 ds_12.2.1 ds_12.2.2.1 ds_12.2.2.2.1 ds_12.2.2.2.2.1 (dm_f ds_12.2.2.2.2.2.1) (dm_f ds_12.2.2.2.2.2.2.1) (dm_f ds_12.2.2.2.2.2.2.2.1) (dm_f ds_12.2.2.2.2.2.2.2.2.1) (dm_f ds_12.2.2.2.2.2.2.2.2.2.1) (dm_f ds_12.2.2.2.2.2.2.2.2.2.2.1) (dm_f ds_12.2.2.2.2.2.2.2.2.2.2.2.1) (dm_n env ds_12.2.2.2.2.2.2.2.2.2.2.2.2.1) (dm_f ds_12.2.2.2.2.2.2.2.2.2.2.2.2.2.1) (dm_f ds_12.2.2.2.2.2.2.2.2.2.2.2.2.2.2.1) (dm_l ds_12.2.2.2.2.2.2.2.2.2.2.2.2.2.2.2.1) (dm_f ds_12.2.2.2.2.2.2.2.2.2.2.2.2.2.2.2.2.1) (dm_f ds_12.2.2.2.2.2.2.2.2.2.2.2.2.2.2.2.2.2) := by
  unfold wL_lawOf_484
  refine br_t rfl ?_
  refine ⟨rfl, ?_⟩
  refine br_t rfl ?_
  refine dm_std de_32 ?_
  refine br_t rfl ?_
  exact dl_516_00 he hn h0 hp mc ms kc ks
theorem dl_460_00 {env : Nat → Int32} (he : env 4 = env 1 + env 2) (hn : ¬ env 3 = env 2) (h0 : env 0 = 0) {post : Int32 → St0 → Prop} (hp : post 1 ()) (mc ms kc ks : Nat) :
    wL_lawOf_460 post mc ms 0 kc ks ds_11.1 ds_11.2.1 ds_11.2.2.1 ds_11.2.2.2.1 ds_11.2.2.2.2.1 (dm_f ds_11.2.2.2.2.2.1) (dm_f ds_11.2.2.2.2.2.2.1) (dm_f ds_11.2.2.2.2.2.2.2.1) (dm_f ds_11.2.2.2.2.2.2.2.2.1) (dm_f ds_11.2.2.2.2.2.2.2.2.2.1) (dm_f ds_11.2.2.2.2.2.2.2.2.2.2.1) (dm_f ds_11.2.2.2.2.2.2.2.2.2.2.2.1) (dm_n env ds_11.2.2.2.2.2.2.2.2.2.2.2.2.1) (dm_f ds_11.2.2.2.2.2.2.2.2.2.2.2.2.2.1) (dm_f ds_11.2.2.2.2.2.2.2.2.2.2.2.2.2.2.1) (dm_l ds_11.2.2.2.2.2.2.2.2.2.2.2.2.2.2.2.1) (dm_f ds_11.2.2.2.2.2.2.2.2.2.2.2.2.2.2.2.2.1) (dm_f ds_11.2.2.2.2.2.2.2.2.2.2.2.2.2.2.2.2.2) := by
  unfold wL_lawOf_460
  refine dm_told he hn de_31 (by decide) ?_
  refine br_t rfl ?_
  exact dl_484_00 he hn h0 hp mc ms kc ks
theorem dl_191_00 {env : Nat → Int32} (he : env 4 = env 1 + env 2) (hn : ¬ env 3 = env 2) (h0 : env 0 = 0) {post : Int32 → St0 → Prop} (hp : post 1 ()) (mc ms kc ks : Nat) :
    wL_lawOf_191 post mc ms (env 1) (env 2) (env 2) kc ks ds_7.1 ds_7.2.1 ds_7.2.2.1 ds_7.2.2.2.1 ds_7.2.2.2.2.1 (dm_f ds_7.2.2.2.2.2.1) (dm_f ds_7.2.2.2.2.2.2.1) (dm_f ds_7.2.2.2.2.2.2.2.1) (dm_f ds_7.2.2.2.2.2.2.2.2.1) (dm_f ds_7.2.2.2.2.2.2.2.2.2.1) (dm_f ds_7.2.2.2.2.2.2.2.2.2.2.1) (dm_f ds_7.2.2.2.2.2.2.2.2.2.2.2.1) (dm_n env ds_7.2.2.2.2.2.2.2.2.2.2.2.2.1) (dm_f ds_7.2.2.2.2.2.2.2.2.2.2.2.2.2.1) (dm_f ds_7.2.2.2.2.2.2.2.2.2.2.2.2.2.2.1) (dm_l ds_7.2.2.2.2.2.2.2.2.2.2.2.2.2.2.2.1) (dm_f ds_7.2.2.2.2.2.2.2.2.2.2.2.2.2.2.2.2.1) (dm_f ds_7.2.2.2.2.2.2.2.2.2.2.2.2.2.2.2.2.2) := by
  unfold wL_lawOf_191
  refine dm_told he hn de_10 (by decide) ?_
  refine br_t rfl ?_
  refine dm_lkd de_11 ?_
  refine br_f (by decide) ?_
  refine dm_lkd de_12 ?_
  refine br_f (by decide) ?_
  refine dm_lkd de_13 ?_
  refine br_f (by decide) ?_
  refine dm_lkd de_14 ?_
  refine br_t rfl ?_
  refine dm_lkd de_15 ?_
  refine br_f (by decide) ?_
  refine dm_vald h0 de_16 ?_
  refine br_t he ?_
  refine dm_vald h0 de_17 ?_
  refine br_t rfl ?_
  refine dm_vald h0 de_18 ?_
  refine br_t rfl ?_
  refine dm_wtd de_19 ?_
  refine br_t rfl ?_
  refine dm_csd de_20 ?_
  refine br_t rfl ?_
  refine dm_ptd de_21 ?_
  refine br_t rfl ?_
  refine dm_ptd de_22 ?_
  refine br_t rfl ?_
  refine dm_std de_23 ?_
  refine br_t rfl ?_
  refine dm_ptd de_24 ?_
  refine br_t rfl ?_
  refine dm_told he hn de_25 (by decide) ?_
  refine br_t rfl ?_
  refine dm_told he hn de_26 (by decide) ?_
  refine br_t rfl ?_
  refine dm_lkd de_27 ?_
  refine br_f (by decide) ?_
  refine dm_ptd de_28 ?_
  refine br_t rfl ?_
  refine dm_toldI he hn de_29 ?_
  refine br_t rfl ?_
  refine dm_vald h0 de_30 ?_
  refine br_t rfl ?_
  refine br_t rfl ?_
  exact dl_460_00 he hn h0 hp mc ms kc ks
theorem dl_144_00 {env : Nat → Int32} (he : env 4 = env 1 + env 2) (hn : ¬ env 3 = env 2) (h0 : env 0 = 0) {post : Int32 → St0 → Prop} (hp : post 1 ()) (mc ms kc ks : Nat) :
    wL_lawOf_144 post mc ms (env 1) (env 2) (env 2) 0 1 1 kc ks ds_7.1 ds_7.2.1 ds_7.2.2.1 ds_7.2.2.2.1 ds_7.2.2.2.2.1 (dm_f ds_7.2.2.2.2.2.1) (dm_f ds_7.2.2.2.2.2.2.1) (dm_f ds_7.2.2.2.2.2.2.2.1) (dm_f ds_7.2.2.2.2.2.2.2.2.1) (dm_f ds_7.2.2.2.2.2.2.2.2.2.1) (dm_f ds_7.2.2.2.2.2.2.2.2.2.2.1) (dm_f ds_7.2.2.2.2.2.2.2.2.2.2.2.1) (dm_n env ds_7.2.2.2.2.2.2.2.2.2.2.2.2.1) (dm_f ds_7.2.2.2.2.2.2.2.2.2.2.2.2.2.1) (dm_f ds_7.2.2.2.2.2.2.2.2.2.2.2.2.2.2.1) (dm_l ds_7.2.2.2.2.2.2.2.2.2.2.2.2.2.2.2.1) (dm_f ds_7.2.2.2.2.2.2.2.2.2.2.2.2.2.2.2.2.1) (dm_f ds_7.2.2.2.2.2.2.2.2.2.2.2.2.2.2.2.2.2) := by
  unfold wL_lawOf_144
  refine br_t rfl ?_
  refine dm_lkd de_8 ?_
  refine br_t rfl ?_
  refine dm_std de_9 ?_
  refine br_t rfl ?_
  refine br_t rfl ?_
  exact dl_191_00 he hn h0 hp mc ms kc ks
theorem dl_103_00 {env : Nat → Int32} (he : env 4 = env 1 + env 2) (hn : ¬ env 3 = env 2) (h0 : env 0 = 0) {post : Int32 → St0 → Prop} (hp : post 1 ()) (mc ms kc ks : Nat) :
    wL_lawOf_103 post mc ms (env 1) (env 2) (env 2) 0 kc ks ds_5.1 ds_5.2.1 ds_5.2.2.1 ds_5.2.2.2.1 ds_5.2.2.2.2.1 (dm_f ds_5.2.2.2.2.2.1) (dm_f ds_5.2.2.2.2.2.2.1) (dm_f ds_5.2.2.2.2.2.2.2.1) (dm_f ds_5.2.2.2.2.2.2.2.2.1) (dm_f ds_5.2.2.2.2.2.2.2.2.2.1) (dm_f ds_5.2.2.2.2.2.2.2.2.2.2.1) (dm_f ds_5.2.2.2.2.2.2.2.2.2.2.2.1) (dm_n env ds_5.2.2.2.2.2.2.2.2.2.2.2.2.1) (dm_f ds_5.2.2.2.2.2.2.2.2.2.2.2.2.2.1) (dm_f ds_5.2.2.2.2.2.2.2.2.2.2.2.2.2.2.1) (dm_l ds_5.2.2.2.2.2.2.2.2.2.2.2.2.2.2.2.1) (dm_f ds_5.2.2.2.2.2.2.2.2.2.2.2.2.2.2.2.2.1) (dm_f ds_5.2.2.2.2.2.2.2.2.2.2.2.2.2.2.2.2.2) := by
  unfold wL_lawOf_103
  refine dm_toldI he hn de_5 ?_
  refine br_f (by decide) ?_
  refine dm_toldI he hn de_6 ?_
  refine br_t (by decide) ?_
  refine dm_wtd de_7 ?_
  refine br_t rfl ?_
  exact dl_144_00 he hn h0 hp mc ms kc ks
theorem dl_21_00 {env : Nat → Int32} (he : env 4 = env 1 + env 2) (hn : ¬ env 3 = env 2) (h0 : env 0 = 0) {post : Int32 → St0 → Prop} (hp : post 1 ()) (mc ms kc ks : Nat) :
    wL_lawOf_21 post mc ms (env 1) (env 2) (env 2) 0 kc ks ds_0.1 ds_0.2.1 ds_0.2.2.1 ds_0.2.2.2.1 ds_0.2.2.2.2.1 (dm_f ds_0.2.2.2.2.2.1) (dm_f ds_0.2.2.2.2.2.2.1) (dm_f ds_0.2.2.2.2.2.2.2.1) (dm_f ds_0.2.2.2.2.2.2.2.2.1) (dm_f ds_0.2.2.2.2.2.2.2.2.2.1) (dm_f ds_0.2.2.2.2.2.2.2.2.2.2.1) (dm_f ds_0.2.2.2.2.2.2.2.2.2.2.2.1) (dm_n env ds_0.2.2.2.2.2.2.2.2.2.2.2.2.1) (dm_f ds_0.2.2.2.2.2.2.2.2.2.2.2.2.2.1) (dm_f ds_0.2.2.2.2.2.2.2.2.2.2.2.2.2.2.1) (dm_l ds_0.2.2.2.2.2.2.2.2.2.2.2.2.2.2.2.1) (dm_f ds_0.2.2.2.2.2.2.2.2.2.2.2.2.2.2.2.2.1) (dm_f ds_0.2.2.2.2.2.2.2.2.2.2.2.2.2.2.2.2.2) := by
  unfold wL_lawOf_21
  refine dm_told he hn de_0 (by decide) ?_
  refine br_t rfl ?_
  refine dm_told he hn de_1 (by decide) ?_
  refine br_t rfl ?_
  refine dm_told he hn de_2 (by decide) ?_
  refine br_t rfl ?_
  refine dm_told he hn de_3 (by decide) ?_
  refine br_t rfl ?_
  refine br_t rfl ?_
  refine dm_told he hn de_4 (by decide) ?_
  refine br_t rfl ?_
  exact dl_103_00 he hn h0 hp mc ms kc ks
theorem dl_588_01 {env : Nat → Int32} (he : env 4 = env 1 + env 2) (hn : ¬ env 3 = env 2) (h0 : env 0 = 0) {post : Int32 → St0 → Prop} (hp : post 1 ()) (mc ms kc ks : Nat) :
    wL_lawOf_588 post mc ms 12 12 kc ks ds_17.1 ds_17.2.1 ds_17.2.2.1 ds_17.2.2.2.1 ds_17.2.2.2.2.1 (dm_f ds_17.2.2.2.2.2.1) (dm_f ds_17.2.2.2.2.2.2.1) (dm_f ds_17.2.2.2.2.2.2.2.1) (dm_f ds_17.2.2.2.2.2.2.2.2.1) (dm_f ds_17.2.2.2.2.2.2.2.2.2.1) (dm_f ds_17.2.2.2.2.2.2.2.2.2.2.1) (dm_f ds_17.2.2.2.2.2.2.2.2.2.2.2.1) (dm_n env ds_17.2.2.2.2.2.2.2.2.2.2.2.2.1) (dm_f ds_17.2.2.2.2.2.2.2.2.2.2.2.2.2.1) (dm_f ds_17.2.2.2.2.2.2.2.2.2.2.2.2.2.2.1) (dm_l ds_17.2.2.2.2.2.2.2.2.2.2.2.2.2.2.2.1) (dm_f ds_17.2.2.2.2.2.2.2.2.2.2.2.2.2.2.2.2.1) (dm_f ds_17.2.2.2.2.2.2.2.2.2.2.2.2.2.2.2.2.2) := by
  unfold wL_lawOf_588
  refine br_t rfl ?_
  refine dm_csd de_49 ?_
  refine br_t rfl ?_
  refine dm_std de_50 ?_
  exact br_t rfl hp
theorem dl_516_01 {env : Nat → Int32} (he : env 4 = env 1 + env 2) (hn : ¬ env 3 = env 2) (h0 : env 0 = 0) {post : Int32 → St0 → Prop} (hp : post 1 ()) (mc ms kc ks : Nat) :
    wL_lawOf_516 post mc ms 1 (-3) (-3) kc ks ds_16.1 ds_16.2.1 ds_16.2.2.1 ds_16.2.2.2.1 ds_16.2.2.2.2.1 (dm_f ds_16.2.2.2.2.2.1) (dm_f ds_16.2.2.2.2.2.2.1) (dm_f ds_16.2.2.2.2.2.2.2.1) (dm_f ds_16.2.2.2.2.2.2.2.2.1) (dm_f ds_16.2.2.2.2.2.2.2.2.2.1) (dm_f ds_16.2.2.2.2.2.2.2.2.2.2.1) (dm_f ds_16.2.2.2.2.2.2.2.2.2.2.2.1) (dm_n env ds_16.2.2.2.2.2.2.2.2.2.2.2.2.1) (dm_f ds_16.2.2.2.2.2.2.2.2.2.2.2.2.2.1) (dm_f ds_16.2.2.2.2.2.2.2.2.2.2.2.2.2.2.1) (dm_l ds_16.2.2.2.2.2.2.2.2.2.2.2.2.2.2.2.1) (dm_f ds_16.2.2.2.2.2.2.2.2.2.2.2.2.2.2.2.2.1) (dm_f ds_16.2.2.2.2.2.2.2.2.2.2.2.2.2.2.2.2.2) := by
  unfold wL_lawOf_516
  refine br_t rfl ?_
  refine dm_told he hn de_44 (by decide) ?_
  refine br_t rfl ?_
  refine dm_wtd de_45 ?_
  refine br_t rfl ?_
  refine dm_lkd de_46 ?_
  refine br_t rfl ?_
  refine dm_ptd de_47 ?_
  refine br_t rfl ?_
  refine dm_clrd de_48 ?_
  refine br_f (by decide) ?_
  exact dl_588_01 he hn h0 hp mc ms kc ks
theorem dl_484_01 {env : Nat → Int32} (he : env 4 = env 1 + env 2) (hn : ¬ env 3 = env 2) (h0 : env 0 = 0) {post : Int32 → St0 → Prop} (hp : post 1 ()) (mc ms kc ks : Nat) :
    wL_lawOf_484 post mc ms 1 (-3) (-3) kc ks ds_16.1 ds_16.2.1 ds_16.2.2.1 ds_16.2.2.2.1 ds_16.2.2.2.2.1 (dm_f ds_16.2.2.2.2.2.1) (dm_f ds_16.2.2.2.2.2.2.1) (dm_f ds_16.2.2.2.2.2.2.2.1) (dm_f ds_16.2.2.2.2.2.2.2.2.1) (dm_f ds_16.2.2.2.2.2.2.2.2.2.1) (dm_f ds_16.2.2.2.2.2.2.2.2.2.2.1) (dm_f ds_16.2.2.2.2.2.2.2.2.2.2.2.1) (dm_n env ds_16.2.2.2.2.2.2.2.2.2.2.2.2.1) (dm_f ds_16.2.2.2.2.2.2.2.2.2.2.2.2.2.1) (dm_f ds_16.2.2.2.2.2.2.2.2.2.2.2.2.2.2.1) (dm_l ds_16.2.2.2.2.2.2.2.2.2.2.2.2.2.2.2.1) (dm_f ds_16.2.2.2.2.2.2.2.2.2.2.2.2.2.2.2.2.1) (dm_f ds_16.2.2.2.2.2.2.2.2.2.2.2.2.2.2.2.2.2) := by
  unfold wL_lawOf_484
  refine br_t rfl ?_
  refine ⟨rfl, ?_⟩
  refine br_t rfl ?_
  refine dm_std de_43 ?_
  refine br_f (by decide) ?_
  exact dl_516_01 he hn h0 hp mc ms kc ks
theorem dl_460_01 {env : Nat → Int32} (he : env 4 = env 1 + env 2) (hn : ¬ env 3 = env 2) (h0 : env 0 = 0) {post : Int32 → St0 → Prop} (hp : post 1 ()) (mc ms kc ks : Nat) :
    wL_lawOf_460 post mc ms 1 kc ks ds_15.1 ds_15.2.1 ds_15.2.2.1 ds_15.2.2.2.1 ds_15.2.2.2.2.1 (dm_f ds_15.2.2.2.2.2.1) (dm_f ds_15.2.2.2.2.2.2.1) (dm_f ds_15.2.2.2.2.2.2.2.1) (dm_f ds_15.2.2.2.2.2.2.2.2.1) (dm_f ds_15.2.2.2.2.2.2.2.2.2.1) (dm_f ds_15.2.2.2.2.2.2.2.2.2.2.1) (dm_f ds_15.2.2.2.2.2.2.2.2.2.2.2.1) (dm_n env ds_15.2.2.2.2.2.2.2.2.2.2.2.2.1) (dm_f ds_15.2.2.2.2.2.2.2.2.2.2.2.2.2.1) (dm_f ds_15.2.2.2.2.2.2.2.2.2.2.2.2.2.2.1) (dm_l ds_15.2.2.2.2.2.2.2.2.2.2.2.2.2.2.2.1) (dm_f ds_15.2.2.2.2.2.2.2.2.2.2.2.2.2.2.2.2.1) (dm_f ds_15.2.2.2.2.2.2.2.2.2.2.2.2.2.2.2.2.2) := by
  unfold wL_lawOf_460
  refine dm_told he hn de_42 (by decide) ?_
  refine br_f (by decide) ?_
  exact dl_484_01 he hn h0 hp mc ms kc ks
theorem dl_191_01 {env : Nat → Int32} (he : env 4 = env 1 + env 2) (hn : ¬ env 3 = env 2) (h0 : env 0 = 0) {post : Int32 → St0 → Prop} (hp : post 1 ()) (mc ms kc ks : Nat) :
    wL_lawOf_191 post mc ms (env 1) (env 2) (env 3) kc ks ds_7.1 ds_7.2.1 ds_7.2.2.1 ds_7.2.2.2.1 ds_7.2.2.2.2.1 (dm_f ds_7.2.2.2.2.2.1) (dm_f ds_7.2.2.2.2.2.2.1) (dm_f ds_7.2.2.2.2.2.2.2.1) (dm_f ds_7.2.2.2.2.2.2.2.2.1) (dm_f ds_7.2.2.2.2.2.2.2.2.2.1) (dm_f ds_7.2.2.2.2.2.2.2.2.2.2.1) (dm_f ds_7.2.2.2.2.2.2.2.2.2.2.2.1) (dm_n env ds_7.2.2.2.2.2.2.2.2.2.2.2.2.1) (dm_f ds_7.2.2.2.2.2.2.2.2.2.2.2.2.2.1) (dm_f ds_7.2.2.2.2.2.2.2.2.2.2.2.2.2.2.1) (dm_l ds_7.2.2.2.2.2.2.2.2.2.2.2.2.2.2.2.1) (dm_f ds_7.2.2.2.2.2.2.2.2.2.2.2.2.2.2.2.2.1) (dm_f ds_7.2.2.2.2.2.2.2.2.2.2.2.2.2.2.2.2.2) := by
  unfold wL_lawOf_191
  refine dm_told he hn de_10 (by decide) ?_
  refine br_t rfl ?_
  refine dm_lkd de_11 ?_
  refine br_f (by decide) ?_
  refine dm_lkd de_12 ?_
  refine br_f (by decide) ?_
  refine dm_lkd de_13 ?_
  refine br_f (by decide) ?_
  refine dm_lkd de_14 ?_
  refine br_t rfl ?_
  refine dm_lkd de_15 ?_
  refine br_f (by decide) ?_
  refine dm_vald h0 de_16 ?_
  refine br_t he ?_
  refine dm_vald h0 de_17 ?_
  refine br_t rfl ?_
  refine dm_vald h0 de_18 ?_
  refine br_t rfl ?_
  refine dm_wtd de_19 ?_
  refine br_t rfl ?_
  refine dm_csd de_20 ?_
  refine br_t rfl ?_
  refine dm_ptd de_21 ?_
  refine br_t rfl ?_
  refine dm_ptd de_22 ?_
  refine br_t rfl ?_
  refine dm_std de_23 ?_
  refine br_t rfl ?_
  refine dm_ptd de_24 ?_
  refine br_t rfl ?_
  refine dm_told he hn de_25 (by decide) ?_
  refine br_t rfl ?_
  refine dm_told he hn de_26 (by decide) ?_
  refine br_t rfl ?_
  refine dm_lkd de_27 ?_
  refine br_f (by decide) ?_
  refine dm_ptd de_28 ?_
  refine br_t rfl ?_
  refine dm_toldI he hn de_40 ?_
  refine br_t rfl ?_
  refine dm_vald h0 de_41 ?_
  refine br_t rfl ?_
  refine br_f (fun z => hn z.symm) ?_
  exact dl_460_01 he hn h0 hp mc ms kc ks
theorem dl_144_01 {env : Nat → Int32} (he : env 4 = env 1 + env 2) (hn : ¬ env 3 = env 2) (h0 : env 0 = 0) {post : Int32 → St0 → Prop} (hp : post 1 ()) (mc ms kc ks : Nat) :
    wL_lawOf_144 post mc ms (env 1) (env 2) (env 3) 0 1 1 kc ks ds_7.1 ds_7.2.1 ds_7.2.2.1 ds_7.2.2.2.1 ds_7.2.2.2.2.1 (dm_f ds_7.2.2.2.2.2.1) (dm_f ds_7.2.2.2.2.2.2.1) (dm_f ds_7.2.2.2.2.2.2.2.1) (dm_f ds_7.2.2.2.2.2.2.2.2.1) (dm_f ds_7.2.2.2.2.2.2.2.2.2.1) (dm_f ds_7.2.2.2.2.2.2.2.2.2.2.1) (dm_f ds_7.2.2.2.2.2.2.2.2.2.2.2.1) (dm_n env ds_7.2.2.2.2.2.2.2.2.2.2.2.2.1) (dm_f ds_7.2.2.2.2.2.2.2.2.2.2.2.2.2.1) (dm_f ds_7.2.2.2.2.2.2.2.2.2.2.2.2.2.2.1) (dm_l ds_7.2.2.2.2.2.2.2.2.2.2.2.2.2.2.2.1) (dm_f ds_7.2.2.2.2.2.2.2.2.2.2.2.2.2.2.2.2.1) (dm_f ds_7.2.2.2.2.2.2.2.2.2.2.2.2.2.2.2.2.2) := by
  unfold wL_lawOf_144
  refine br_t rfl ?_
  refine dm_lkd de_8 ?_
  refine br_t rfl ?_
  refine dm_std de_9 ?_
  refine br_t rfl ?_
  refine br_t rfl ?_
  exact dl_191_01 he hn h0 hp mc ms kc ks
theorem dl_103_01 {env : Nat → Int32} (he : env 4 = env 1 + env 2) (hn : ¬ env 3 = env 2) (h0 : env 0 = 0) {post : Int32 → St0 → Prop} (hp : post 1 ()) (mc ms kc ks : Nat) :
    wL_lawOf_103 post mc ms (env 1) (env 2) (env 3) 0 kc ks ds_5.1 ds_5.2.1 ds_5.2.2.1 ds_5.2.2.2.1 ds_5.2.2.2.2.1 (dm_f ds_5.2.2.2.2.2.1) (dm_f ds_5.2.2.2.2.2.2.1) (dm_f ds_5.2.2.2.2.2.2.2.1) (dm_f ds_5.2.2.2.2.2.2.2.2.1) (dm_f ds_5.2.2.2.2.2.2.2.2.2.1) (dm_f ds_5.2.2.2.2.2.2.2.2.2.2.1) (dm_f ds_5.2.2.2.2.2.2.2.2.2.2.2.1) (dm_n env ds_5.2.2.2.2.2.2.2.2.2.2.2.2.1) (dm_f ds_5.2.2.2.2.2.2.2.2.2.2.2.2.2.1) (dm_f ds_5.2.2.2.2.2.2.2.2.2.2.2.2.2.2.1) (dm_l ds_5.2.2.2.2.2.2.2.2.2.2.2.2.2.2.2.1) (dm_f ds_5.2.2.2.2.2.2.2.2.2.2.2.2.2.2.2.2.1) (dm_f ds_5.2.2.2.2.2.2.2.2.2.2.2.2.2.2.2.2.2) := by
  unfold wL_lawOf_103
  refine dm_toldI he hn de_5 ?_
  refine br_f (by decide) ?_
  refine dm_toldI he hn de_6 ?_
  refine br_t (by decide) ?_
  refine dm_wtd de_7 ?_
  refine br_t rfl ?_
  exact dl_144_01 he hn h0 hp mc ms kc ks
theorem dl_21_01 {env : Nat → Int32} (he : env 4 = env 1 + env 2) (hn : ¬ env 3 = env 2) (h0 : env 0 = 0) {post : Int32 → St0 → Prop} (hp : post 1 ()) (mc ms kc ks : Nat) :
    wL_lawOf_21 post mc ms (env 1) (env 2) (env 3) 0 kc ks ds_0.1 ds_0.2.1 ds_0.2.2.1 ds_0.2.2.2.1 ds_0.2.2.2.2.1 (dm_f ds_0.2.2.2.2.2.1) (dm_f ds_0.2.2.2.2.2.2.1) (dm_f ds_0.2.2.2.2.2.2.2.1) (dm_f ds_0.2.2.2.2.2.2.2.2.1) (dm_f ds_0.2.2.2.2.2.2.2.2.2.1) (dm_f ds_0.2.2.2.2.2.2.2.2.2.2.1) (dm_f ds_0.2.2.2.2.2.2.2.2.2.2.2.1) (dm_n env ds_0.2.2.2.2.2.2.2.2.2.2.2.2.1) (dm_f ds_0.2.2.2.2.2.2.2.2.2.2.2.2.2.1) (dm_f ds_0.2.2.2.2.2.2.2.2.2.2.2.2.2.2.1) (dm_l ds_0.2.2.2.2.2.2.2.2.2.2.2.2.2.2.2.1) (dm_f ds_0.2.2.2.2.2.2.2.2.2.2.2.2.2.2.2.2.1) (dm_f ds_0.2.2.2.2.2.2.2.2.2.2.2.2.2.2.2.2.2) := by
  unfold wL_lawOf_21
  refine dm_told he hn de_0 (by decide) ?_
  refine br_t rfl ?_
  refine dm_told he hn de_1 (by decide) ?_
  refine br_t rfl ?_
  refine dm_told he hn de_2 (by decide) ?_
  refine br_t rfl ?_
  refine dm_told he hn de_3 (by decide) ?_
  refine br_t rfl ?_
  refine br_t rfl ?_
  refine dm_told he hn de_4 (by decide) ?_
  refine br_t rfl ?_
  exact dl_103_01 he hn h0 hp mc ms kc ks
theorem dl_588_10 {env : Nat → Int32} (he : env 4 = env 1 + env 2) (hn : ¬ env 3 = env 2) (h0 : env 0 = 0) {post : Int32 → St0 → Prop} (hp : post 1 ()) (mc ms kc ks : Nat) :
    wL_lawOf_588 post mc ms 13 13 kc ks ds_27.1 ds_27.2.1 ds_27.2.2.1 ds_27.2.2.2.1 ds_27.2.2.2.2.1 (dm_f ds_27.2.2.2.2.2.1) (dm_f ds_27.2.2.2.2.2.2.1) (dm_f ds_27.2.2.2.2.2.2.2.1) (dm_f ds_27.2.2.2.2.2.2.2.2.1) (dm_f ds_27.2.2.2.2.2.2.2.2.2.1) (dm_f ds_27.2.2.2.2.2.2.2.2.2.2.1) (dm_f ds_27.2.2.2.2.2.2.2.2.2.2.2.1) (dm_n env ds_27.2.2.2.2.2.2.2.2.2.2.2.2.1) (dm_f ds_27.2.2.2.2.2.2.2.2.2.2.2.2.2.1) (dm_f ds_27.2.2.2.2.2.2.2.2.2.2.2.2.2.2.1) (dm_l ds_27.2.2.2.2.2.2.2.2.2.2.2.2.2.2.2.1) (dm_f ds_27.2.2.2.2.2.2.2.2.2.2.2.2.2.2.2.2.1) (dm_f ds_27.2.2.2.2.2.2.2.2.2.2.2.2.2.2.2.2.2) := by
  unfold wL_lawOf_588
  refine br_t rfl ?_
  refine dm_csd de_85 ?_
  refine br_t rfl ?_
  refine dm_std de_86 ?_
  exact br_t rfl hp
theorem dl_516_10 {env : Nat → Int32} (he : env 4 = env 1 + env 2) (hn : ¬ env 3 = env 2) (h0 : env 0 = 0) {post : Int32 → St0 → Prop} (hp : post 1 ()) (mc ms kc ks : Nat) :
    wL_lawOf_516 post mc ms 0 2 2 kc ks ds_25.1 ds_25.2.1 ds_25.2.2.1 ds_25.2.2.2.1 ds_25.2.2.2.2.1 (dm_f ds_25.2.2.2.2.2.1) (dm_f ds_25.2.2.2.2.2.2.1) (dm_f ds_25.2.2.2.2.2.2.2.1) (dm_f ds_25.2.2.2.2.2.2.2.2.1) (dm_f ds_25.2.2.2.2.2.2.2.2.2.1) (dm_f ds_25.2.2.2.2.2.2.2.2.2.2.1) (dm_f ds_25.2.2.2.2.2.2.2.2.2.2.2.1) (dm_n env ds_25.2.2.2.2.2.2.2.2.2.2.2.2.1) (dm_f ds_25.2.2.2.2.2.2.2.2.2.2.2.2.2.1) (dm_f ds_25.2.2.2.2.2.2.2.2.2.2.2.2.2.2.1) (dm_l ds_25.2.2.2.2.2.2.2.2.2.2.2.2.2.2.2.1) (dm_f ds_25.2.2.2.2.2.2.2.2.2.2.2.2.2.2.2.2.1) (dm_f ds_25.2.2.2.2.2.2.2.2.2.2.2.2.2.2.2.2.2) := by
  unfold wL_lawOf_516
  refine br_t rfl ?_
  refine dm_told he hn de_80 (by decide) ?_
  refine br_t rfl ?_
  refine dm_wtd de_81 ?_
  refine br_t rfl ?_
  refine dm_lkd de_82 ?_
  refine br_t rfl ?_
  refine dm_ptd de_83 ?_
  refine br_t rfl ?_
  refine dm_clrd de_84 ?_
  refine br_t rfl ?_
  exact dl_588_10 he hn h0 hp mc ms kc ks
theorem dl_484_10 {env : Nat → Int32} (he : env 4 = env 1 + env 2) (hn : ¬ env 3 = env 2) (h0 : env 0 = 0) {post : Int32 → St0 → Prop} (hp : post 1 ()) (mc ms kc ks : Nat) :
    wL_lawOf_484 post mc ms 0 12 12 kc ks ds_25.1 ds_25.2.1 ds_25.2.2.1 ds_25.2.2.2.1 ds_25.2.2.2.2.1 (dm_f ds_25.2.2.2.2.2.1) (dm_f ds_25.2.2.2.2.2.2.1) (dm_f ds_25.2.2.2.2.2.2.2.1) (dm_f ds_25.2.2.2.2.2.2.2.2.1) (dm_f ds_25.2.2.2.2.2.2.2.2.2.1) (dm_f ds_25.2.2.2.2.2.2.2.2.2.2.1) (dm_f ds_25.2.2.2.2.2.2.2.2.2.2.2.1) (dm_n env ds_25.2.2.2.2.2.2.2.2.2.2.2.2.1) (dm_f ds_25.2.2.2.2.2.2.2.2.2.2.2.2.2.1) (dm_f ds_25.2.2.2.2.2.2.2.2.2.2.2.2.2.2.1) (dm_l ds_25.2.2.2.2.2.2.2.2.2.2.2.2.2.2.2.1) (dm_f ds_25.2.2.2.2.2.2.2.2.2.2.2.2.2.2.2.2.1) (dm_f ds_25.2.2.2.2.2.2.2.2.2.2.2.2.2.2.2.2.2) := by
  unfold wL_lawOf_484
  refine br_t rfl ?_
  refine ⟨rfl, ?_⟩
  refine br_t rfl ?_
  refine dm_std de_79 ?_
  refine br_t rfl ?_
  exact dl_516_10 he hn h0 hp mc ms kc ks
theorem dl_460_10 {env : Nat → Int32} (he : env 4 = env 1 + env 2) (hn : ¬ env 3 = env 2) (h0 : env 0 = 0) {post : Int32 → St0 → Prop} (hp : post 1 ()) (mc ms kc ks : Nat) :
    wL_lawOf_460 post mc ms 0 kc ks ds_24.1 ds_24.2.1 ds_24.2.2.1 ds_24.2.2.2.1 ds_24.2.2.2.2.1 (dm_f ds_24.2.2.2.2.2.1) (dm_f ds_24.2.2.2.2.2.2.1) (dm_f ds_24.2.2.2.2.2.2.2.1) (dm_f ds_24.2.2.2.2.2.2.2.2.1) (dm_f ds_24.2.2.2.2.2.2.2.2.2.1) (dm_f ds_24.2.2.2.2.2.2.2.2.2.2.1) (dm_f ds_24.2.2.2.2.2.2.2.2.2.2.2.1) (dm_n env ds_24.2.2.2.2.2.2.2.2.2.2.2.2.1) (dm_f ds_24.2.2.2.2.2.2.2.2.2.2.2.2.2.1) (dm_f ds_24.2.2.2.2.2.2.2.2.2.2.2.2.2.2.1) (dm_l ds_24.2.2.2.2.2.2.2.2.2.2.2.2.2.2.2.1) (dm_f ds_24.2.2.2.2.2.2.2.2.2.2.2.2.2.2.2.2.1) (dm_f ds_24.2.2.2.2.2.2.2.2.2.2.2.2.2.2.2.2.2) := by
  unfold wL_lawOf_460
  refine dm_told he hn de_78 (by decide) ?_
  refine br_t rfl ?_
  exact dl_484_10 he hn h0 hp mc ms kc ks
theorem dl_191_10 {env : Nat → Int32} (he : env 4 = env 1 + env 2) (hn : ¬ env 3 = env 2) (h0 : env 0 = 0) {post : Int32 → St0 → Prop} (hp : post 1 ()) (mc ms kc ks : Nat) :
    wL_lawOf_191 post mc ms (env 1) (env 2) (env 2) kc ks ds_20.1 ds_20.2.1 ds_20.2.2.1 ds_20.2.2.2.1 ds_20.2.2.2.2.1 (dm_f ds_20.2.2.2.2.2.1) (dm_f ds_20.2.2.2.2.2.2.1) (dm_f ds_20.2.2.2.2.2.2.2.1) (dm_f ds_20.2.2.2.2.2.2.2.2.1) (dm_f ds_20.2.2.2.2.2.2.2.2.2.1) (dm_f ds_20.2.2.2.2.2.2.2.2.2.2.1) (dm_f ds_20.2.2.2.2.2.2.2.2.2.2.2.1) (dm_n env ds_20.2.2.2.2.2.2.2.2.2.2.2.2.1) (dm_f ds_20.2.2.2.2.2.2.2.2.2.2.2.2.2.1) (dm_f ds_20.2.2.2.2.2.2.2.2.2.2.2.2.2.2.1) (dm_l ds_20.2.2.2.2.2.2.2.2.2.2.2.2.2.2.2.1) (dm_f ds_20.2.2.2.2.2.2.2.2.2.2.2.2.2.2.2.2.1) (dm_f ds_20.2.2.2.2.2.2.2.2.2.2.2.2.2.2.2.2.2) := by
  unfold wL_lawOf_191
  refine dm_told he hn de_57 (by decide) ?_
  refine br_t rfl ?_
  refine dm_lkd de_58 ?_
  refine br_f (by decide) ?_
  refine dm_lkd de_59 ?_
  refine br_f (by decide) ?_
  refine dm_lkd de_60 ?_
  refine br_f (by decide) ?_
  refine dm_lkd de_61 ?_
  refine br_t rfl ?_
  refine dm_lkd de_62 ?_
  refine br_f (by decide) ?_
  refine dm_vald h0 de_63 ?_
  refine br_t he ?_
  refine dm_vald h0 de_64 ?_
  refine br_t rfl ?_
  refine dm_vald h0 de_65 ?_
  refine br_t rfl ?_
  refine dm_wtd de_66 ?_
  refine br_t rfl ?_
  refine dm_csd de_67 ?_
  refine br_t rfl ?_
  refine dm_ptd de_68 ?_
  refine br_t rfl ?_
  refine dm_ptd de_69 ?_
  refine br_t rfl ?_
  refine dm_std de_70 ?_
  refine br_t rfl ?_
  refine dm_ptd de_71 ?_
  refine br_t rfl ?_
  refine dm_told he hn de_72 (by decide) ?_
  refine br_t rfl ?_
  refine dm_told he hn de_73 (by decide) ?_
  refine br_t rfl ?_
  refine dm_lkd de_74 ?_
  refine br_f (by decide) ?_
  refine dm_ptd de_75 ?_
  refine br_t rfl ?_
  refine dm_toldI he hn de_76 ?_
  refine br_t rfl ?_
  refine dm_vald h0 de_77 ?_
  refine br_t rfl ?_
  refine br_t rfl ?_
  exact dl_460_10 he hn h0 hp mc ms kc ks
theorem dl_144_10 {env : Nat → Int32} (he : env 4 = env 1 + env 2) (hn : ¬ env 3 = env 2) (h0 : env 0 = 0) {post : Int32 → St0 → Prop} (hp : post 1 ()) (mc ms kc ks : Nat) :
    wL_lawOf_144 post mc ms (env 1) (env 2) (env 2) 1 2 2 kc ks ds_19.1 ds_19.2.1 ds_19.2.2.1 ds_19.2.2.2.1 ds_19.2.2.2.2.1 (dm_f ds_19.2.2.2.2.2.1) (dm_f ds_19.2.2.2.2.2.2.1) (dm_f ds_19.2.2.2.2.2.2.2.1) (dm_f ds_19.2.2.2.2.2.2.2.2.1) (dm_f ds_19.2.2.2.2.2.2.2.2.2.1) (dm_f ds_19.2.2.2.2.2.2.2.2.2.2.1) (dm_f ds_19.2.2.2.2.2.2.2.2.2.2.2.1) (dm_n env ds_19.2.2.2.2.2.2.2.2.2.2.2.2.1) (dm_f ds_19.2.2.2.2.2.2.2.2.2.2.2.2.2.1) (dm_f ds_19.2.2.2.2.2.2.2.2.2.2.2.2.2.2.1) (dm_l ds_19.2.2.2.2.2.2.2.2.2.2.2.2.2.2.2.1) (dm_f ds_19.2.2.2.2.2.2.2.2.2.2.2.2.2.2.2.2.1) (dm_f ds_19.2.2.2.2.2.2.2.2.2.2.2.2.2.2.2.2.2) := by
  unfold wL_lawOf_144
  refine br_t rfl ?_
  refine dm_lkd de_54 ?_
  refine br_t rfl ?_
  refine dm_std de_55 ?_
  refine br_t rfl ?_
  refine br_f (by decide) ?_
  refine dm_told he hn de_56 (by decide) ?_
  refine br_t rfl ?_
  exact dl_191_10 he hn h0 hp mc ms kc ks
theorem dl_103_10 {env : Nat → Int32} (he : env 4 = env 1 + env 2) (hn : ¬ env 3 = env 2) (h0 : env 0 = 0) {post : Int32 → St0 → Prop} (hp : post 1 ()) (mc ms kc ks : Nat) :
    wL_lawOf_103 post mc ms (env 1) (env 2) (env 2) 1 kc ks ds_4.1 ds_4.2.1 ds_4.2.2.1 ds_4.2.2.2.1 ds_4.2.2.2.2.1 (dm_f ds_4.2.2.2.2.2.1) (dm_f ds_4.2.2.2.2.2.2.1) (dm_f ds_4.2.2.2.2.2.2.2.1) (dm_f ds_4.2.2.2.2.2.2.2.2.1) (dm_f ds_4.2.2.2.2.2.2.2.2.2.1) (dm_f ds_4.2.2.2.2.2.2.2.2.2.2.1) (dm_f ds_4.2.2.2.2.2.2.2.2.2.2.2.1) (dm_n env ds_4.2.2.2.2.2.2.2.2.2.2.2.2.1) (dm_f ds_4.2.2.2.2.2.2.2.2.2.2.2.2.2.1) (dm_f ds_4.2.2.2.2.2.2.2.2.2.2.2.2.2.2.1) (dm_l ds_4.2.2.2.2.2.2.2.2.2.2.2.2.2.2.2.1) (dm_f ds_4.2.2.2.2.2.2.2.2.2.2.2.2.2.2.2.2.1) (dm_f ds_4.2.2.2.2.2.2.2.2.2.2.2.2.2.2.2.2.2) := by
  unfold wL_lawOf_103
  refine dm_toldI he hn de_51 ?_
  refine br_f (by decide) ?_
  refine dm_toldI he hn de_52 ?_
  refine br_t (by decide) ?_
  refine dm_wtd de_53 ?_
  refine br_f (by decide) ?_
  exact dl_144_10 he hn h0 hp mc ms kc ks
theorem dl_21_10 {env : Nat → Int32} (he : env 4 = env 1 + env 2) (hn : ¬ env 3 = env 2) (h0 : env 0 = 0) {post : Int32 → St0 → Prop} (hp : post 1 ()) (mc ms kc ks : Nat) :
    wL_lawOf_21 post mc ms (env 1) (env 2) (env 2) 1 kc ks ds_0.1 ds_0.2.1 ds_0.2.2.1 ds_0.2.2.2.1 ds_0.2.2.2.2.1 (dm_f ds_0.2.2.2.2.2.1) (dm_f ds_0.2.2.2.2.2.2.1) (dm_f ds_0.2.2.2.2.2.2.2.1) (dm_f ds_0.2.2.2.2.2.2.2.2.1) (dm_f ds_0.2.2.2.2.2.2.2.2.2.1) (dm_f ds_0.2.2.2.2.2.2.2.2.2.2.1) (dm_f ds_0.2.2.2.2.2.2.2.2.2.2.2.1) (dm_n env ds_0.2.2.2.2.2.2.2.2.2.2.2.2.1) (dm_f ds_0.2.2.2.2.2.2.2.2.2.2.2.2.2.1) (dm_f ds_0.2.2.2.2.2.2.2.2.2.2.2.2.2.2.1) (dm_l ds_0.2.2.2.2.2.2.2.2.2.2.2.2.2.2.2.1) (dm_f ds_0.2.2.2.2.2.2.2.2.2.2.2.2.2.2.2.2.1) (dm_f ds_0.2.2.2.2.2.2.2.2.2.2.2.2.2.2.2.2.2) := by
  unfold wL_lawOf_21
  refine dm_told he hn de_0 (by decide) ?_
  refine br_t rfl ?_
  refine dm_told he hn de_1 (by decide) ?_
  refine br_t rfl ?_
  refine dm_told he hn de_2 (by decide) ?_
  refine br_t rfl ?_
  refine dm_told he hn de_3 (by decide) ?_
  refine br_t rfl ?_
  refine br_f (by decide) ?_
  exact dl_103_10 he hn h0 hp mc ms kc ks
theorem dl_588_11 {env : Nat → Int32} (he : env 4 = env 1 + env 2) (hn : ¬ env 3 = env 2) (h0 : env 0 = 0) {post : Int32 → St0 → Prop} (hp : post 1 ()) (mc ms kc ks : Nat) :
    wL_lawOf_588 post mc ms 12 12 kc ks ds_30.1 ds_30.2.1 ds_30.2.2.1 ds_30.2.2.2.1 ds_30.2.2.2.2.1 (dm_f ds_30.2.2.2.2.2.1) (dm_f ds_30.2.2.2.2.2.2.1) (dm_f ds_30.2.2.2.2.2.2.2.1) (dm_f ds_30.2.2.2.2.2.2.2.2.1) (dm_f ds_30.2.2.2.2.2.2.2.2.2.1) (dm_f ds_30.2.2.2.2.2.2.2.2.2.2.1) (dm_f ds_30.2.2.2.2.2.2.2.2.2.2.2.1) (dm_n env ds_30.2.2.2.2.2.2.2.2.2.2.2.2.1) (dm_f ds_30.2.2.2.2.2.2.2.2.2.2.2.2.2.1) (dm_f ds_30.2.2.2.2.2.2.2.2.2.2.2.2.2.2.1) (dm_l ds_30.2.2.2.2.2.2.2.2.2.2.2.2.2.2.2.1) (dm_f ds_30.2.2.2.2.2.2.2.2.2.2.2.2.2.2.2.2.1) (dm_f ds_30.2.2.2.2.2.2.2.2.2.2.2.2.2.2.2.2.2) := by
  unfold wL_lawOf_588
  refine br_t rfl ?_
  refine dm_csd de_96 ?_
  refine br_t rfl ?_
  refine dm_std de_97 ?_
  exact br_t rfl hp
theorem dl_516_11 {env : Nat → Int32} (he : env 4 = env 1 + env 2) (hn : ¬ env 3 = env 2) (h0 : env 0 = 0) {post : Int32 → St0 → Prop} (hp : post 1 ()) (mc ms kc ks : Nat) :
    wL_lawOf_516 post mc ms 1 (-3) (-3) kc ks ds_29.1 ds_29.2.1 ds_29.2.2.1 ds_29.2.2.2.1 ds_29.2.2.2.2.1 (dm_f ds_29.2.2.2.2.2.1) (dm_f ds_29.2.2.2.2.2.2.1) (dm_f ds_29.2.2.2.2.2.2.2.1) (dm_f ds_29.2.2.2.2.2.2.2.2.1) (dm_f ds_29.2.2.2.2.2.2.2.2.2.1) (dm_f ds_29.2.2.2.2.2.2.2.2.2.2.1) (dm_f ds_29.2.2.2.2.2.2.2.2.2.2.2.1) (dm_n env ds_29.2.2.2.2.2.2.2.2.2.2.2.2.1) (dm_f ds_29.2.2.2.2.2.2.2.2.2.2.2.2.2.1) (dm_f ds_29.2.2.2.2.2.2.2.2.2.2.2.2.2.2.1) (dm_l ds_29.2.2.2.2.2.2.2.2.2.2.2.2.2.2.2.1) (dm_f ds_29.2.2.2.2.2.2.2.2.2.2.2.2.2.2.2.2.1) (dm_f ds_29.2.2.2.2.2.2.2.2.2.2.2.2.2.2.2.2.2) := by
  unfold wL_lawOf_516
  refine br_t rfl ?_
  refine dm_told he hn de_91 (by decide) ?_
  refine br_t rfl ?_
  refine dm_wtd de_92 ?_
  refine br_t rfl ?_
  refine dm_lkd de_93 ?_
  refine br_t rfl ?_
  refine dm_ptd de_94 ?_
  refine br_t rfl ?_
  refine dm_clrd de_95 ?_
  refine br_f (by decide) ?_
  exact dl_588_11 he hn h0 hp mc ms kc ks
theorem dl_484_11 {env : Nat → Int32} (he : env 4 = env 1 + env 2) (hn : ¬ env 3 = env 2) (h0 : env 0 = 0) {post : Int32 → St0 → Prop} (hp : post 1 ()) (mc ms kc ks : Nat) :
    wL_lawOf_484 post mc ms 1 (-3) (-3) kc ks ds_29.1 ds_29.2.1 ds_29.2.2.1 ds_29.2.2.2.1 ds_29.2.2.2.2.1 (dm_f ds_29.2.2.2.2.2.1) (dm_f ds_29.2.2.2.2.2.2.1) (dm_f ds_29.2.2.2.2.2.2.2.1) (dm_f ds_29.2.2.2.2.2.2.2.2.1) (dm_f ds_29.2.2.2.2.2.2.2.2.2.1) (dm_f ds_29.2.2.2.2.2.2.2.2.2.2.1) (dm_f ds_29.2.2.2.2.2.2.2.2.2.2.2.1) (dm_n env ds_29.2.2.2.2.2.2.2.2.2.2.2.2.1) (dm_f ds_29.2.2.2.2.2.2.2.2.2.2.2.2.2.1) (dm_f ds_29.2.2.2.2.2.2.2.2.2.2.2.2.2.2.1) (dm_l ds_29.2.2.2.2.2.2.2.2.2.2.2.2.2.2.2.1) (dm_f ds_29.2.2.2.2.2.2.2.2.2.2.2.2.2.2.2.2.1) (dm_f ds_29.2.2.2.2.2.2.2.2.2.2.2.2.2.2.2.2.2) := by
  unfold wL_lawOf_484
  refine br_t rfl ?_
  refine ⟨rfl, ?_⟩
  refine br_t rfl ?_
  refine dm_std de_90 ?_
  refine br_f (by decide) ?_
  exact dl_516_11 he hn h0 hp mc ms kc ks
theorem dl_460_11 {env : Nat → Int32} (he : env 4 = env 1 + env 2) (hn : ¬ env 3 = env 2) (h0 : env 0 = 0) {post : Int32 → St0 → Prop} (hp : post 1 ()) (mc ms kc ks : Nat) :
    wL_lawOf_460 post mc ms 1 kc ks ds_28.1 ds_28.2.1 ds_28.2.2.1 ds_28.2.2.2.1 ds_28.2.2.2.2.1 (dm_f ds_28.2.2.2.2.2.1) (dm_f ds_28.2.2.2.2.2.2.1) (dm_f ds_28.2.2.2.2.2.2.2.1) (dm_f ds_28.2.2.2.2.2.2.2.2.1) (dm_f ds_28.2.2.2.2.2.2.2.2.2.1) (dm_f ds_28.2.2.2.2.2.2.2.2.2.2.1) (dm_f ds_28.2.2.2.2.2.2.2.2.2.2.2.1) (dm_n env ds_28.2.2.2.2.2.2.2.2.2.2.2.2.1) (dm_f ds_28.2.2.2.2.2.2.2.2.2.2.2.2.2.1) (dm_f ds_28.2.2.2.2.2.2.2.2.2.2.2.2.2.2.1) (dm_l ds_28.2.2.2.2.2.2.2.2.2.2.2.2.2.2.2.1) (dm_f ds_28.2.2.2.2.2.2.2.2.2.2.2.2.2.2.2.2.1) (dm_f ds_28.2.2.2.2.2.2.2.2.2.2.2.2.2.2.2.2.2) := by
  unfold wL_lawOf_460
  refine dm_told he hn de_89 (by decide) ?_
  refine br_f (by decide) ?_
  exact dl_484_11 he hn h0 hp mc ms kc ks
theorem dl_191_11 {env : Nat → Int32} (he : env 4 = env 1 + env 2) (hn : ¬ env 3 = env 2) (h0 : env 0 = 0) {post : Int32 → St0 → Prop} (hp : post 1 ()) (mc ms kc ks : Nat) :
    wL_lawOf_191 post mc ms (env 1) (env 2) (env 3) kc ks ds_20.1 ds_20.2.1 ds_20.2.2.1 ds_20.2.2.2.1 ds_20.2.2.2.2.1 (dm_f ds_20.2.2.2.2.2.1) (dm_f ds_20.2.2.2.2.2.2.1) (dm_f ds_20.2.2.2.2.2.2.2.1) (dm_f ds_20.2.2.2.2.2.2.2.2.1) (dm_f ds_20.2.2.2.2.2.2.2.2.2.1) (dm_f ds_20.2.2.2.2.2.2.2.2.2.2.1) (dm_f ds_20.2.2.2.2.2.2.2.2.2.2.2.1) (dm_n env ds_20.2.2.2.2.2.2.2.2.2.2.2.2.1) (dm_f ds_20.2.2.2.2.2.2.2.2.2.2.2.2.2.1) (dm_f ds_20.2.2.2.2.2.2.2.2.2.2.2.2.2.2.1) (dm_l ds_20.2.2.2.2.2.2.2.2.2.2.2.2.2.2.2.1) (dm_f ds_20.2.2.2.2.2.2.2.2.2.2.2.2.2.2.2.2.1) (dm_f ds_20.2.2.2.2.2.2.2.2.2.2.2.2.2.2.2.2.2) := by
  unfold wL_lawOf_191
  refine dm_told he hn de_57 (by decide) ?_
  refine br_t rfl ?_
  refine dm_lkd de_58 ?_
  refine br_f (by decide) ?_
  refine dm_lkd de_59 ?_
  refine br_f (by decide) ?_
  refine dm_lkd de_60 ?_
  refine br_f (by decide) ?_
  refine dm_lkd de_61 ?_
  refine br_t rfl ?_
  refine dm_lkd de_62 ?_
  refine br_f (by decide) ?_
  refine dm_vald h0 de_63 ?_
  refine br_t he ?_
  refine dm_vald h0 de_64 ?_
  refine br_t rfl ?_
  refine dm_vald h0 de_65 ?_
  refine br_t rfl ?_
  refine dm_wtd de_66 ?_
  refine br_t rfl ?_
  refine dm_csd de_67 ?_
  refine br_t rfl ?_
  refine dm_ptd de_68 ?_
  refine br_t rfl ?_
  refine dm_ptd de_69 ?_
  refine br_t rfl ?_
  refine dm_std de_70 ?_
  refine br_t rfl ?_
  refine dm_ptd de_71 ?_
  refine br_t rfl ?_
  refine dm_told he hn de_72 (by decide) ?_
  refine br_t rfl ?_
  refine dm_told he hn de_73 (by decide) ?_
  refine br_t rfl ?_
  refine dm_lkd de_74 ?_
  refine br_f (by decide) ?_
  refine dm_ptd de_75 ?_
  refine br_t rfl ?_
  refine dm_toldI he hn de_87 ?_
  refine br_t rfl ?_
  refine dm_vald h0 de_88 ?_
  refine br_t rfl ?_
  refine br_f (fun z => hn z.symm) ?_
  exact dl_460_11 he hn h0 hp mc ms kc ks
theorem dl_144_11 {env : Nat → Int32} (he : env 4 = env 1 + env 2) (hn : ¬ env 3 = env 2) (h0 : env 0 = 0) {post : Int32 → St0 → Prop} (hp : post 1 ()) (mc ms kc ks : Nat) :
    wL_lawOf_144 post mc ms (env 1) (env 2) (env 3) 1 2 2 kc ks ds_19.1 ds_19.2.1 ds_19.2.2.1 ds_19.2.2.2.1 ds_19.2.2.2.2.1 (dm_f ds_19.2.2.2.2.2.1) (dm_f ds_19.2.2.2.2.2.2.1) (dm_f ds_19.2.2.2.2.2.2.2.1) (dm_f ds_19.2.2.2.2.2.2.2.2.1) (dm_f ds_19.2.2.2.2.2.2.2.2.2.1) (dm_f ds_19.2.2.2.2.2.2.2.2.2.2.1) (dm_f ds_19.2.2.2.2.2.2.2.2.2.2.2.1) (dm_n env ds_19.2.2.2.2.2.2.2.2.2.2.2.2.1) (dm_f ds_19.2.2.2.2.2.2.2.2.2.2.2.2.2.1) (dm_f ds_19.2.2.2.2.2.2.2.2.2.2.2.2.2.2.1) (dm_l ds_19.2.2.2.2.2.2.2.2.2.2.2.2.2.2.2.1) (dm_f ds_19.2.2.2.2.2.2.2.2.2.2.2.2.2.2.2.2.1) (dm_f ds_19.2.2.2.2.2.2.2.2.2.2.2.2.2.2.2.2.2) := by
  unfold wL_lawOf_144
  refine br_t rfl ?_
  refine dm_lkd de_54 ?_
  refine br_t rfl ?_
  refine dm_std de_55 ?_
  refine br_t rfl ?_
  refine br_f (by decide) ?_
  refine dm_told he hn de_56 (by decide) ?_
  refine br_t rfl ?_
  exact dl_191_11 he hn h0 hp mc ms kc ks
theorem dl_103_11 {env : Nat → Int32} (he : env 4 = env 1 + env 2) (hn : ¬ env 3 = env 2) (h0 : env 0 = 0) {post : Int32 → St0 → Prop} (hp : post 1 ()) (mc ms kc ks : Nat) :
    wL_lawOf_103 post mc ms (env 1) (env 2) (env 3) 1 kc ks ds_4.1 ds_4.2.1 ds_4.2.2.1 ds_4.2.2.2.1 ds_4.2.2.2.2.1 (dm_f ds_4.2.2.2.2.2.1) (dm_f ds_4.2.2.2.2.2.2.1) (dm_f ds_4.2.2.2.2.2.2.2.1) (dm_f ds_4.2.2.2.2.2.2.2.2.1) (dm_f ds_4.2.2.2.2.2.2.2.2.2.1) (dm_f ds_4.2.2.2.2.2.2.2.2.2.2.1) (dm_f ds_4.2.2.2.2.2.2.2.2.2.2.2.1) (dm_n env ds_4.2.2.2.2.2.2.2.2.2.2.2.2.1) (dm_f ds_4.2.2.2.2.2.2.2.2.2.2.2.2.2.1) (dm_f ds_4.2.2.2.2.2.2.2.2.2.2.2.2.2.2.1) (dm_l ds_4.2.2.2.2.2.2.2.2.2.2.2.2.2.2.2.1) (dm_f ds_4.2.2.2.2.2.2.2.2.2.2.2.2.2.2.2.2.1) (dm_f ds_4.2.2.2.2.2.2.2.2.2.2.2.2.2.2.2.2.2) := by
  unfold wL_lawOf_103
  refine dm_toldI he hn de_51 ?_
  refine br_f (by decide) ?_
  refine dm_toldI he hn de_52 ?_
  refine br_t (by decide) ?_
  refine dm_wtd de_53 ?_
  refine br_f (by decide) ?_
  exact dl_144_11 he hn h0 hp mc ms kc ks
theorem dl_21_11 {env : Nat → Int32} (he : env 4 = env 1 + env 2) (hn : ¬ env 3 = env 2) (h0 : env 0 = 0) {post : Int32 → St0 → Prop} (hp : post 1 ()) (mc ms kc ks : Nat) :
    wL_lawOf_21 post mc ms (env 1) (env 2) (env 3) 1 kc ks ds_0.1 ds_0.2.1 ds_0.2.2.1 ds_0.2.2.2.1 ds_0.2.2.2.2.1 (dm_f ds_0.2.2.2.2.2.1) (dm_f ds_0.2.2.2.2.2.2.1) (dm_f ds_0.2.2.2.2.2.2.2.1) (dm_f ds_0.2.2.2.2.2.2.2.2.1) (dm_f ds_0.2.2.2.2.2.2.2.2.2.1) (dm_f ds_0.2.2.2.2.2.2.2.2.2.2.1) (dm_f ds_0.2.2.2.2.2.2.2.2.2.2.2.1) (dm_n env ds_0.2.2.2.2.2.2.2.2.2.2.2.2.1) (dm_f ds_0.2.2.2.2.2.2.2.2.2.2.2.2.2.1) (dm_f ds_0.2.2.2.2.2.2.2.2.2.2.2.2.2.2.1) (dm_l ds_0.2.2.2.2.2.2.2.2.2.2.2.2.2.2.2.1) (dm_f ds_0.2.2.2.2.2.2.2.2.2.2.2.2.2.2.2.2.1) (dm_f ds_0.2.2.2.2.2.2.2.2.2.2.2.2.2.2.2.2.2) := by
  unfold wL_lawOf_21
  refine dm_told he hn de_0 (by decide) ?_
  refine br_t rfl ?_
  refine dm_told he hn de_1 (by decide) ?_
  refine br_t rfl ?_
  refine dm_told he hn de_2 (by decide) ?_
  refine br_t rfl ?_
  refine dm_told he hn de_3 (by decide) ?_
  refine br_t rfl ?_
  refine br_f (by decide) ?_
  exact dl_103_11 he hn h0 hp mc ms kc ks
end
section
def dm_e (p q r : Int32) : Nat → Int32
  | 0 => 0
  | 1 => p
  | 2 => q
  | 3 => r
  | _ => p + q
theorem dl_ne (q : Int32) : ¬ (if q = 0 then 1 else 0) = q := by
  by_cases h : q = 0
  · rw [if_pos h, h]
    decide
  · rw [if_neg h]
    exact fun z => h z.symm
theorem dl_main {post : Int32 → St0 → Prop} (hp : post 1 ()) (p q r w : Int32) : wpL_lawOf post 96 1536 () p q r w := by
  refine ⟨by decide, by decide, 13, 324, by decide, by decide, ?_⟩
  by_cases g : q = r
  · subst g
    refine dm_made (env := dm_e p q (if q = 0 then 1 else 0)) rfl dl_new ?_
    exact br_c (fun _ => dl_21_10 (env := dm_e p q (if q = 0 then 1 else 0)) rfl (dl_ne q) rfl hp 96 1536 (1 + 13) (18 + 324))
      (fun _ => dl_21_00 (env := dm_e p q (if q = 0 then 1 else 0)) rfl (dl_ne q) rfl hp 96 1536 (1 + 13) (18 + 324))
  · refine dm_made (env := dm_e p q r) rfl dl_new ?_
    have hn : ¬ dm_e p q r 3 = dm_e p q r 2 := fun z => g (show q = r from z.symm)
    exact br_c (fun _ => dl_21_11 (env := dm_e p q r) rfl hn rfl hp 96 1536 (1 + 13) (18 + 324))
      (fun _ => dl_21_01 (env := dm_e p q r) rfl hn rfl hp 96 1536 (1 + 13) (18 + 324))
theorem dl_cell {post : Int32 → Prop} {L : Nat} {xs : Nat → Int32} {x : Int32} (hL : L ≤ 4) (j : Nat) (hj : j < 4) (hx : x = nI j) (H : ∀ v : Int32, post v) : wpL_cellAt post L xs () x :=
  pk_le L j (fun _ => H 0) (fun z => ⟨pk_in j L z hx, H _⟩) rfl hx
theorem i_vc (xs : Nat → Int32) (L : Nat) (hL : L ≤ 4) : wpL_law (fun r => r = 1) L xs := by
  unfold wpL_law
  exact dl_cell hL 0 (by decide) rfl (fun p => dl_cell hL 1 (by decide) rfl (fun q => dl_cell hL 2 (by decide) rfl (fun r => dl_cell hL 3 (by decide) rfl (fun w =>
    ⟨96, 1536, by decide, by decide, dl_main (post := fun r _ => r = 1) rfl p q r w⟩))))
end
