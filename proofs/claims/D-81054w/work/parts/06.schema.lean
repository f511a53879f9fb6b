/-! THE HEAP AS TABLES: every object of the run belongs to a family (its class, or the field that holds it, for arrays), with a number i; what it holds stands in columns. -/
abbrev Sg : Type := (Nat → Nat → Nat → Int32) × (Nat → Nat → Nat → Bool) × (Nat → Nat → Nat → Int64) × (Nat → Nat → Nat → Option Nat)
abbrev Sg.I (σ : Sg) : Nat → Nat → Nat → Int32 := σ.1
abbrev Sg.B (σ : Sg) : Nat → Nat → Nat → Bool := σ.2.1
abbrev Sg.L (σ : Sg) : Nat → Nat → Nat → Int64 := σ.2.2.1
abbrev Sg.R (σ : Sg) : Nat → Nat → Nat → Option Nat := σ.2.2.2
def u3 {α : Type} (f : Nat → Nat → Nat → α) (c i j : Nat) (v : α) : Nat → Nat → Nat → α := fun c' i' j' => if c' = c ∧ i' = i ∧ j' = j then v else f c' i' j'
def sI (σ : Sg) (c i j : Nat) (v : Int32) : Sg := (u3 σ.1 c i j v, σ.2)
def sB (σ : Sg) (c i j : Nat) (v : Bool) : Sg := (σ.1, u3 σ.2.1 c i j v, σ.2.2)
def sL (σ : Sg) (c i j : Nat) (v : Int64) : Sg := (σ.1, σ.2.1, u3 σ.2.2.1 c i j v, σ.2.2.2)
def sR (σ : Sg) (c i j : Nat) (v : Option Nat) : Sg := (σ.1, σ.2.1, σ.2.2.1, u3 σ.2.2.2 c i j v)
def bI (b : Bool) : Int32 := match b with
  | true => 1
  | false => 0
/-- what is the same all through a run: the law's start, the classes' numbers and slots, where an object lies, the array classes, what a Refusal holds of Throwable -/
abbrev Gl : Type := State × va_G × (Nat → Nat → Nat) × (Nat → ClassId) × (Nat → Value)
abbrev Gl.s0 (G : Gl) : State := G.1
abbrev Gl.D (G : Gl) : va_G := G.2.1
abbrev Gl.adr (G : Gl) : Nat → Nat → Nat := G.2.2.1
abbrev Gl.tc (G : Gl) : Nat → ClassId := G.2.2.2.1
abbrev Gl.x (G : Gl) : Nat → Value := G.2.2.2.2
/-- a reference, or null, to a member of a family -/
abbrev rv (G : Gl) (fam : Nat) (r : Option Nat) : Value := va_rf (r.map (G.adr fam))
abbrev kcl : List vw_C := [(RX0, TX0, 32), (RX1, TX1, 29), (RX2, TX2, 23), (RX3, TX3, 14), (RX4, TX4, 8), (RX5, TX5, 18), (RX6, TX6, 20), (RX7, TX7, 5), (RX8, TX8, 8), (RX9, TX9, 23), (RX10, TX10, 14), (RX11, TX11, 180)]
abbrev ktys (tc : Nat → ClassId) : List (ClassId × FieldType) := [(tc 0, .int), (tc 1, .long), (tc 2, .byte), (tc 3, .boolean), (tc 4, .object "LinkHouse$Kind"), (tc 5, .object "LinkHouse$Member"), (tc 6, .object "LinkHouse$Use"), (tc 7, .object "LinkHouse$Build"), (tc 8, .array (.object "LinkHouse$Kind"))]
def fX0 (G : Gl) (σ : Sg) (i : Nat) : List Value := [.ref (G.adr 1000 i), .int (σ.I 1001 i 0), .ref (G.adr 1002 i), .int (σ.I 1003 i 0), .ref (G.adr 1004 i), .int (σ.I 1005 i 0), .ref (G.adr 1006 i), .ref (G.adr 1007 i), .ref (G.adr 1008 i), .ref (G.adr 1 192), .ref (G.adr 1 193), .ref (G.adr 3 0), .ref (G.adr 3 1), .ref (G.adr 3 2), .ref (G.adr 4 0), .ref (G.adr 5 0), .ref (G.adr 6 0), .ref (G.adr 6 1), .ref (G.adr 8 0), .ref (G.adr 9 0), .int (σ.I 1020 i 0), rv G 2 (σ.R 1021 i 0), .int (σ.I 1022 i 0), .ref (G.adr 1023 i), .int (σ.I 1024 i 0), .ref (G.adr 1025 i), .int (σ.I 1026 i 0), .ref (G.adr 1027 i), .int (σ.I 1028 i 0), .ref (G.adr 1029 i), .ref (G.adr 1030 i), .ref (G.adr 1031 i)]
def fX1 (G : Gl) (σ : Sg) (i : Nat) : List Value := [.long (σ.L 1100 i 0), .int (σ.I 1101 i 0), .int (bI (σ.B 1102 i 0)), .int (bI (σ.B 1103 i 0)), .int (bI (σ.B 1104 i 0)), .int (bI (σ.B 1105 i 0)), .int (bI (σ.B 1106 i 0)), .long (σ.L 1107 i 0), .ref (G.adr 1108 i), .int (σ.I 1109 i 0), .long (σ.L 1110 i 0), .ref (G.adr 1111 i), .int (σ.I 1112 i 0), .ref (G.adr 1113 i), .int (σ.I 1114 i 0), .int (bI (σ.B 1115 i 0)), .ref (G.adr 1116 i), .int (σ.I 1117 i 0), .int (σ.I 1118 i 0), .int (σ.I 1119 i 0), .int (σ.I 1120 i 0), .int (σ.I 1121 i 0), .int (σ.I 1122 i 0), .int (σ.I 1123 i 0), .int (σ.I 1124 i 0), .ref (G.adr 1125 i), rv G 10 (σ.R 1126 i 0), .int (σ.I 1127 i 0), .int (σ.I 1128 i 0)]
def fX2 (G : Gl) (σ : Sg) (i : Nat) : List Value := [.int (σ.I 1200 i 0), .long (σ.L 1201 i 0), .int (σ.I 1202 i 0), .int (bI (σ.B 1203 i 0)), .int (bI (σ.B 1204 i 0)), .int (bI (σ.B 1205 i 0)), .int (bI (σ.B 1206 i 0)), .long (σ.L 1207 i 0), .int (σ.I 1208 i 0), .ref (G.adr 1209 i), .ref (G.adr 1210 i), .ref (G.adr 1211 i), .int (bI (σ.B 1212 i 0)), .int (σ.I 1213 i 0), .int (σ.I 1214 i 0), .int (σ.I 1215 i 0), .int (σ.I 1216 i 0), .int (σ.I 1217 i 0), .int (σ.I 1218 i 0), .int (σ.I 1219 i 0), .int (σ.I 1220 i 0), .int (σ.I 1221 i 0), rv G 1 (σ.R 1222 i 0)]
def fX3 (G : Gl) (σ : Sg) (i : Nat) : List Value := [.ref (G.adr 1 192), .ref (G.adr 1 193), .ref (G.adr 1302 i), .int (σ.I 1303 i 0), .ref (G.adr 1304 i), .int (σ.I 1305 i 0), .ref (G.adr 1306 i), .int (σ.I 1307 i 0), .ref (G.adr 1308 i), .ref (G.adr 1309 i), .int (σ.I 1310 i 0), .ref (G.adr 1311 i), .ref (G.adr 1312 i), .int (σ.I 1313 i 0)]
def fX4 (G : Gl) (σ : Sg) (i : Nat) : List Value := [G.x 0, G.x 1, G.x 2, G.x 3, G.x 4, G.x 5, .int (σ.I 1406 i 0), .int (σ.I 1407 i 0)]
def fX5 (G : Gl) (σ : Sg) (i : Nat) : List Value := [.ref (G.adr 4 0), .ref (G.adr 1501 i), rv G 10 (σ.R 1502 i 0), .ref (G.adr 1503 i), .ref (G.adr 1504 i), .int (σ.I 1505 i 0), .int (σ.I 1506 i 0), .int (σ.I 1507 i 0), .int (σ.I 1508 i 0), .ref (G.adr 1509 i), .ref (G.adr 1510 i), .ref (G.adr 1511 i), .ref (G.adr 1512 i), .ref (G.adr 1513 i), .ref (G.adr 1514 i), .int (σ.I 1515 i 0), .int (σ.I 1516 i 0), .int (σ.I 1517 i 0)]
def fX6 (G : Gl) (σ : Sg) (i : Nat) : List Value := [.ref (G.adr 5 0), .ref (G.adr 3 (1 + i)), rv G 10 (σ.R 1602 i 0), rv G 1 (σ.R 1603 i 0), rv G 2 (σ.R 1604 i 0), .int (bI (σ.B 1605 i 0)), .ref (G.adr 1606 i), .ref (G.adr 1607 i), .ref (G.adr 1608 i), .ref (G.adr 1609 i), .ref (G.adr 1610 i), .ref (G.adr 1611 i), .ref (G.adr 1612 i), .int (σ.I 1613 i 0), .int (σ.I 1614 i 0), .ref (G.adr 1615 i), .int (σ.I 1616 i 0), .ref (G.adr 1617 i), .int (σ.I 1618 i 0), .ref (G.adr 7 (16000 + i))]
def fX7 (G : Gl) (σ : Sg) (i : Nat) : List Value := [.int (σ.I 1700 i 0), rv G 1 (σ.R 1701 i 0), .long (σ.L 1702 i 0), .long (σ.L 1703 i 0), .ref (G.adr 2 (6402 + i))]
def fX8 (G : Gl) (σ : Sg) (i : Nat) : List Value := [.ref (G.adr 3 0), .ref (G.adr 1801 i), .ref (G.adr 1802 i), .int (σ.I 1803 i 0), rv G 2 (σ.R 1804 i 0), rv G 2 (σ.R 1805 i 0), .ref (G.adr 1806 i), .int (σ.I 1807 i 0)]
def fX9 (G : Gl) (σ : Sg) (i : Nat) : List Value := [.ref (G.adr 3 0), .ref (G.adr 8 1), .ref (G.adr 1902 i), .ref (G.adr 1903 i), .ref (G.adr 1904 i), .ref (G.adr 1905 i), .ref (G.adr 1906 i), .int (σ.I 1907 i 0), .ref (G.adr 1908 i), .int (σ.I 1909 i 0), .ref (G.adr 1910 i), .int (σ.I 1911 i 0), .int (σ.I 1912 i 0), .int (σ.I 1913 i 0), .int (σ.I 1914 i 0), .ref (G.adr 1915 i), .int (σ.I 1916 i 0), .ref (G.adr 1917 i), .ref (G.adr 1918 i), .ref (G.adr 1919 i), .ref (G.adr 1920 i), .int (σ.I 1921 i 0), .ref (G.adr 1922 i)]
def fX10 (G : Gl) (σ : Sg) (i : Nat) : List Value := [.int (σ.I 2000 i 0), .ref (G.adr 2001 i), .int (σ.I 2002 i 0), .ref (G.adr 2003 i), .ref (G.adr 2004 i), .int (σ.I 2005 i 0), .ref (G.adr 2006 i), .int (σ.I 2007 i 0), .ref (G.adr 2008 i), .int (σ.I 2009 i 0), .ref (G.adr 2010 i), .int (σ.I 2011 i 0), .ref (G.adr 2012 i), .int (σ.I 2013 i 0)]
def fX11 (G : Gl) (σ : Sg) (i : Nat) : List Value := [.ref (G.adr 2100 i), .int (σ.I 2101 i 0), .ref (G.adr 2102 i), .int (σ.I 2103 i 0), .ref (G.adr 2104 i), .ref (G.adr 2105 i), .ref (G.adr 2106 i), .ref (G.adr 2107 i), .ref (G.adr 2108 i), .ref (G.adr 2109 i), .int (σ.I 2110 i 0), .ref (G.adr 2111 i), .ref (G.adr 2112 i), .ref (G.adr 2113 i), .ref (G.adr 2114 i), .ref (G.adr 2115 i), .ref (G.adr 2116 i), .ref (G.adr 2117 i), .int (σ.I 2118 i 0), .int (σ.I 2119 i 0), .int (σ.I 2120 i 0), .int (σ.I 2121 i 0), .int (σ.I 2122 i 0), .ref (G.adr 2123 i), .ref (G.adr 2124 i), .ref (G.adr 2125 i), .ref (G.adr 2126 i), .ref (G.adr 2127 i), .ref (G.adr 2128 i), .ref (G.adr 2129 i), .ref (G.adr 2130 i), .ref (G.adr 2131 i), .ref (G.adr 2132 i), .ref (G.adr 2133 i), .ref (G.adr 2134 i), .ref (G.adr 2135 i), .ref (G.adr 2136 i), .ref (G.adr 2137 i), .ref (G.adr 2138 i), .ref (G.adr 2139 i), .ref (G.adr 2140 i), .ref (G.adr 2141 i), .ref (G.adr 2142 i), .ref (G.adr 2143 i), .ref (G.adr 2144 i), .ref (G.adr 2145 i), .ref (G.adr 2146 i), .ref (G.adr 2147 i), .ref (G.adr 2148 i), .ref (G.adr 2149 i), .ref (G.adr 2150 i), .ref (G.adr 2151 i), .ref (G.adr 2152 i), .ref (G.adr 2153 i), .ref (G.adr 2154 i), .ref (G.adr 2155 i), .ref (G.adr 2156 i), .ref (G.adr 2157 i), .ref (G.adr 2158 i), .ref (G.adr 2159 i), .ref (G.adr 2160 i), .ref (G.adr 2161 i), .ref (G.adr 2162 i), .ref (G.adr 2163 i), .ref (G.adr 2164 i), .ref (G.adr 2165 i), .ref (G.adr 2166 i), .ref (G.adr 2167 i), .ref (G.adr 2168 i), .ref (G.adr 2169 i), .ref (G.adr 2170 i), .ref (G.adr 2171 i), .ref (G.adr 2172 i), .ref (G.adr 2173 i), .ref (G.adr 2174 i), .ref (G.adr 2175 i), .ref (G.adr 2176 i), .ref (G.adr 2177 i), .ref (G.adr 2178 i), .ref (G.adr 2179 i), .ref (G.adr 2180 i), .ref (G.adr 2181 i), .ref (G.adr 2182 i), .ref (G.adr 2183 i), .ref (G.adr 2184 i), .ref (G.adr 2185 i), .ref (G.adr 2186 i), .ref (G.adr 2187 i), .ref (G.adr 2188 i), .int (σ.I 2189 i 0), .ref (G.adr 2190 i), .int (σ.I 2191 i 0), .int (bI (σ.B 2192 i 0)), .ref (G.adr 2193 i), .ref (G.adr 2194 i), .int (σ.I 2195 i 0), .ref (G.adr 2196 i), .ref (G.adr 2197 i), .int (σ.I 2198 i 0), .ref (G.adr 2199 i), .ref (G.adr 2200 i), .int (σ.I 2201 i 0), .int (σ.I 2202 i 0), .ref (G.adr 2203 i), .int (σ.I 2204 i 0), .ref (G.adr 2205 i), .ref (G.adr 2206 i), .ref (G.adr 2207 i), .int (σ.I 2208 i 0), .int (σ.I 2209 i 0), .int (σ.I 2210 i 0), .int (bI (σ.B 2211 i 0)), .ref (G.adr 2212 i), .ref (G.adr 2213 i), .int (σ.I 2214 i 0), .ref (G.adr 2215 i), .int (σ.I 2216 i 0), .ref (G.adr 2217 i), .ref (G.adr 2218 i), .ref (G.adr 2219 i), .ref (G.adr 2220 i), .ref (G.adr 2221 i), .ref (G.adr 2222 i), .ref (G.adr 2223 i), .ref (G.adr 2224 i), .ref (G.adr 2225 i), .ref (G.adr 2226 i), .ref (G.adr 2227 i), .int (σ.I 2228 i 0), .int (σ.I 2229 i 0), .ref (G.adr 2230 i), .ref (G.adr 2231 i), .ref (G.adr 2232 i), .ref (G.adr 2233 i), .int (σ.I 2234 i 0), .ref (G.adr 2235 i), .int (σ.I 2236 i 0), .int (σ.I 2237 i 0), .ref (G.adr 2238 i), .int (σ.I 2239 i 0), .int (σ.I 2240 i 0), .ref (G.adr 2241 i), .int (σ.I 2242 i 0), .ref (G.adr 2243 i), .ref (G.adr 2244 i), .int (σ.I 2245 i 0), .ref (G.adr 2246 i), .ref (G.adr 2247 i), .ref (G.adr 2248 i), .ref (G.adr 2249 i), .ref (G.adr 2250 i), .int (σ.I 2251 i 0), .ref (G.adr 2252 i), .int (σ.I 2253 i 0), .ref (G.adr 2254 i), .int (σ.I 2255 i 0), .ref (G.adr 2256 i), .ref (G.adr 2257 i), .ref (G.adr 2258 i), .ref (G.adr 2259 i), .ref (G.adr 2260 i), .int (σ.I 2261 i 0), .int (σ.I 2262 i 0), .int (σ.I 2263 i 0), .int (σ.I 2264 i 0), .int (σ.I 2265 i 0), .int (σ.I 2266 i 0), .int (σ.I 2267 i 0), .ref (G.adr 2268 i), .int (σ.I 2269 i 0), .ref (G.adr 2270 i), .int (σ.I 2271 i 0), .ref (G.adr 2272 i), .int (σ.I 2273 i 0), .ref (G.adr 2274 i), .int (σ.I 2275 i 0), .ref (G.adr 2276 i), .ref (G.adr 2277 i), .ref (G.adr 2278 i), .ref (G.adr 2279 i)]
/-- what object i of a family is -/
def en (G : Gl) (σ : Sg) (fam i : Nat) : va_E := match fam with
  | 0 => .inr (0, fX0 G σ i)
  | 1 => .inr (1, fX1 G σ i)
  | 2 => .inr (2, fX2 G σ i)
  | 3 => .inr (3, fX3 G σ i)
  | 4 => .inr (4, fX4 G σ i)
  | 5 => .inr (5, fX5 G σ i)
  | 6 => .inr (6, fX6 G σ i)
  | 7 => .inr (7, fX7 G σ i)
  | 8 => .inr (8, fX8 G σ i)
  | 9 => .inr (9, fX9 G σ i)
  | 10 => .inr (10, fX10 G σ i)
  | 11 => .inr (11, fX11 G σ i)
  | 1000 => .inl (G.tc 2, 4000, .inl (fun j => σ.I 1000 i j))
  | 1002 => .inl (G.tc 2, 1000, .inl (fun j => σ.I 1002 i j))
  | 1004 => .inl (G.tc 7, 16, .inr (.inr (.inr (.inr (fun j => some (G.adr 10 j))))))
  | 1006 => .inl (G.tc 0, 40, .inl (fun j => σ.I 1006 i j))
  | 1007 => .inl (G.tc 0, 5, .inl (fun j => σ.I 1007 i j))
  | 1008 => .inl (G.tc 0, 5, .inl (fun j => σ.I 1008 i j))
  | 1023 => .inl (G.tc 0, 132, .inl (fun j => σ.I 1023 i j))
  | 1025 => .inl (G.tc 0, 15000, .inl (fun j => σ.I 1025 i j))
  | 1027 => .inl (G.tc 0, 20000, .inl (fun j => σ.I 1027 i j))
  | 1029 => .inl (G.tc 2, 4000, .inl (fun j => σ.I 1029 i j))
  | 1030 => .inl (G.tc 0, 5, .inl (fun j => σ.I 1030 i j))
  | 1031 => .inl (G.tc 0, 20000, .inl (fun j => σ.I 1031 i j))
  | 1108 => .inl (G.tc 1, 4, .inr (.inl (fun j => σ.L 1108 i j)))
  | 1111 => .inl (G.tc 1, 8, .inr (.inl (fun j => σ.L 1111 i j)))
  | 1113 => .inl (G.tc 1, 8, .inr (.inl (fun j => σ.L 1113 i j)))
  | 1116 => .inl (G.tc 5, 33, .inr (.inr (.inr (.inr (fun j => some (G.adr 2 (33 * i + j)))))))
  | 1125 => .inl (G.tc 0, 22, .inl (fun j => σ.I 1125 i j))
  | 1209 => .inl (G.tc 1, 4, .inr (.inl (fun j => σ.L 1209 i j)))
  | 1210 => .inl (G.tc 1, 4, .inr (.inl (fun j => σ.L 1210 i j)))
  | 1211 => .inl (G.tc 0, 4, .inl (fun j => σ.I 1211 i j))
  | 1302 => .inl (G.tc 4, 64, .inr (.inr (.inr (.inr (fun j => (σ.R 1302 i j).map (G.adr 1))))))
  | 1304 => .inl (G.tc 4, 64, .inr (.inr (.inr (.inr (fun j => (σ.R 1304 i j).map (G.adr 1))))))
  | 1306 => .inl (G.tc 4, 64, .inr (.inr (.inr (.inr (fun j => (σ.R 1306 i j).map (G.adr 1))))))
  | 1308 => .inl (G.tc 4, 64, .inr (.inr (.inr (.inr (fun j => (σ.R 1308 i j).map (G.adr 1))))))
  | 1309 => .inl (G.tc 3, 64, .inl (fun j => bI (σ.B 1309 i j)))
  | 1311 => .inl (G.tc 4, 64, .inr (.inr (.inr (.inr (fun j => (σ.R 1311 i j).map (G.adr 1))))))
  | 1312 => .inl (G.tc 4, 128, .inr (.inr (.inr (.inr (fun j => (σ.R 1312 i j).map (G.adr 1))))))
  | 1501 => .inl (G.tc 1, 30, .inr (.inl (fun j => σ.L 1501 i j)))
  | 1503 => .inl (G.tc 0, 702, .inl (fun j => σ.I 1503 i j))
  | 1504 => .inl (G.tc 1, 702, .inr (.inl (fun j => σ.L 1504 i j)))
  | 1509 => .inl (G.tc 0, 1410, .inl (fun j => σ.I 1509 i j))
  | 1510 => .inl (G.tc 0, 1410, .inl (fun j => σ.I 1510 i j))
  | 1511 => .inl (G.tc 0, 1410, .inl (fun j => σ.I 1511 i j))
  | 1512 => .inl (G.tc 0, 1410, .inl (fun j => σ.I 1512 i j))
  | 1513 => .inl (G.tc 0, 1410, .inl (fun j => σ.I 1513 i j))
  | 1514 => .inl (G.tc 0, 1410, .inl (fun j => σ.I 1514 i j))
  | 1606 => .inl (G.tc 1, 1410, .inr (.inl (fun j => σ.L 1606 i j)))
  | 1607 => .inl (G.tc 5, 1410, .inr (.inr (.inr (.inr (fun j => (σ.R 1607 i j).map (G.adr 2))))))
  | 1608 => .inl (G.tc 4, 1410, .inr (.inr (.inr (.inr (fun j => (σ.R 1608 i j).map (G.adr 1))))))
  | 1609 => .inl (G.tc 0, 1410, .inl (fun j => σ.I 1609 i j))
  | 1610 => .inl (G.tc 1, 700, .inr (.inl (fun j => σ.L 1610 i j)))
  | 1611 => .inl (G.tc 1, 700, .inr (.inl (fun j => σ.L 1611 i j)))
  | 1612 => .inl (G.tc 0, 700, .inl (fun j => σ.I 1612 i j))
  | 1615 => .inl (G.tc 5, 1344, .inr (.inr (.inr (.inr (fun j => (σ.R 1615 i j).map (G.adr 2))))))
  | 1617 => .inl (G.tc 4, 64, .inr (.inr (.inr (.inr (fun j => (σ.R 1617 i j).map (G.adr 1))))))
  | 1801 => .inl (G.tc 0, 64, .inl (fun j => σ.I 1801 i j))
  | 1802 => .inl (G.tc 0, 268, .inl (fun j => σ.I 1802 i j))
  | 1806 => .inl (G.tc 4, 132, .inr (.inr (.inr (.inr (fun j => (σ.R 1806 i j).map (G.adr 1))))))
  | 1902 => .inl (G.tc 0, 64, .inl (fun j => σ.I 1902 i j))
  | 1903 => .inl (G.tc 0, 64, .inl (fun j => σ.I 1903 i j))
  | 1904 => .inl (G.tc 0, 1280, .inl (fun j => σ.I 1904 i j))
  | 1905 => .inl (G.tc 4, 201, .inr (.inr (.inr (.inr (fun j => (σ.R 1905 i j).map (G.adr 1))))))
  | 1906 => .inl (G.tc 0, 201, .inl (fun j => σ.I 1906 i j))
  | 1908 => .inl (G.tc 0, 2000, .inl (fun j => σ.I 1908 i j))
  | 1910 => .inl (G.tc 0, 100, .inl (fun j => σ.I 1910 i j))
  | 1915 => .inl (G.tc 0, 16000, .inl (fun j => σ.I 1915 i j))
  | 1917 => .inl (G.tc 5, 80, .inr (.inr (.inr (.inr (fun j => (σ.R 1917 i j).map (G.adr 2))))))
  | 1918 => .inl (G.tc 0, 80, .inl (fun j => σ.I 1918 i j))
  | 1919 => .inl (G.tc 0, 80, .inl (fun j => σ.I 1919 i j))
  | 1920 => .inl (G.tc 3, 80, .inl (fun j => bI (σ.B 1920 i j)))
  | 1922 => .inl (G.tc 8, 26, .inr (.inr (.inr (.inr (fun j => some (G.adr 1999 j))))))
  | 2001 => .inl (G.tc 2, 4000, .inl (fun j => σ.I 2001 i j))
  | 2003 => .inl (G.tc 0, 702, .inl (fun j => σ.I 2003 i j))
  | 2004 => .inl (G.tc 0, 702, .inl (fun j => σ.I 2004 i j))
  | 2006 => .inl (G.tc 4, 12, .inr (.inr (.inr (.inr (fun j => some (G.adr 1 (12 * i + j)))))))
  | 2008 => .inl (G.tc 6, 1000, .inr (.inr (.inr (.inr (fun j => some (G.adr 7 (1000 * i + j)))))))
  | 2010 => .inl (G.tc 0, 6000, .inl (fun j => σ.I 2010 i j))
  | 2012 => .inl (G.tc 0, 400, .inl (fun j => σ.I 2012 i j))
  | 2100 => .inl (G.tc 0, 4000, .inl (fun j => σ.I 2100 i j))
  | 2102 => .inl (G.tc 0, 4200, .inl (fun j => σ.I 2102 i j))
  | 2104 => .inl (G.tc 0, 4000, .inl (fun j => σ.I 2104 i j))
  | 2105 => .inl (G.tc 2, 64000, .inl (fun j => σ.I 2105 i j))
  | 2106 => .inl (G.tc 0, 16, .inl (fun j => σ.I 2106 i j))
  | 2107 => .inl (G.tc 0, 16, .inl (fun j => σ.I 2107 i j))
  | 2108 => .inl (G.tc 0, 40, .inl (fun j => σ.I 2108 i j))
  | 2109 => .inl (G.tc 0, 5, .inl (fun j => σ.I 2109 i j))
  | 2111 => .inl (G.tc 0, 12636, .inl (fun j => σ.I 2111 i j))
  | 2112 => .inl (G.tc 0, 12636, .inl (fun j => σ.I 2112 i j))
  | 2113 => .inl (G.tc 0, 12636, .inl (fun j => σ.I 2113 i j))
  | 2114 => .inl (G.tc 1, 12636, .inr (.inl (fun j => σ.L 2114 i j)))
  | 2115 => .inl (G.tc 0, 12636, .inl (fun j => σ.I 2115 i j))
  | 2116 => .inl (G.tc 0, 18, .inl (fun j => σ.I 2116 i j))
  | 2117 => .inl (G.tc 1, 32, .inr (.inl (fun j => σ.L 2117 i j)))
  | 2123 => .inl (G.tc 0, 18, .inl (fun j => σ.I 2123 i j))
  | 2124 => .inl (G.tc 1, 216, .inr (.inl (fun j => σ.L 2124 i j)))
  | 2125 => .inl (G.tc 0, 216, .inl (fun j => σ.I 2125 i j))
  | 2126 => .inl (G.tc 3, 216, .inl (fun j => bI (σ.B 2126 i j)))
  | 2127 => .inl (G.tc 0, 216, .inl (fun j => σ.I 2127 i j))
  | 2128 => .inl (G.tc 1, 216, .inr (.inl (fun j => σ.L 2128 i j)))
  | 2129 => .inl (G.tc 0, 216, .inl (fun j => σ.I 2129 i j))
  | 2130 => .inl (G.tc 1, 864, .inr (.inl (fun j => σ.L 2130 i j)))
  | 2131 => .inl (G.tc 0, 864, .inl (fun j => σ.I 2131 i j))
  | 2132 => .inl (G.tc 0, 216, .inl (fun j => σ.I 2132 i j))
  | 2133 => .inl (G.tc 1, 216, .inr (.inl (fun j => σ.L 2133 i j)))
  | 2134 => .inl (G.tc 0, 216, .inl (fun j => σ.I 2134 i j))
  | 2135 => .inl (G.tc 1, 1728, .inr (.inl (fun j => σ.L 2135 i j)))
  | 2136 => .inl (G.tc 0, 1728, .inl (fun j => σ.I 2136 i j))
  | 2137 => .inl (G.tc 0, 216, .inl (fun j => σ.I 2137 i j))
  | 2138 => .inl (G.tc 1, 1728, .inr (.inl (fun j => σ.L 2138 i j)))
  | 2139 => .inl (G.tc 0, 1728, .inl (fun j => σ.I 2139 i j))
  | 2140 => .inl (G.tc 0, 216, .inl (fun j => σ.I 2140 i j))
  | 2141 => .inl (G.tc 0, 216, .inl (fun j => σ.I 2141 i j))
  | 2142 => .inl (G.tc 0, 7344, .inl (fun j => σ.I 2142 i j))
  | 2143 => .inl (G.tc 0, 7344, .inl (fun j => σ.I 2143 i j))
  | 2144 => .inl (G.tc 0, 7344, .inl (fun j => σ.I 2144 i j))
  | 2145 => .inl (G.tc 3, 7344, .inl (fun j => bI (σ.B 2145 i j)))
  | 2146 => .inl (G.tc 3, 7344, .inl (fun j => bI (σ.B 2146 i j)))
  | 2147 => .inl (G.tc 3, 7344, .inl (fun j => bI (σ.B 2147 i j)))
  | 2148 => .inl (G.tc 3, 7344, .inl (fun j => bI (σ.B 2148 i j)))
  | 2149 => .inl (G.tc 3, 7344, .inl (fun j => bI (σ.B 2149 i j)))
  | 2150 => .inl (G.tc 3, 7344, .inl (fun j => bI (σ.B 2150 i j)))
  | 2151 => .inl (G.tc 1, 7344, .inr (.inl (fun j => σ.L 2151 i j)))
  | 2152 => .inl (G.tc 0, 7344, .inl (fun j => σ.I 2152 i j))
  | 2153 => .inl (G.tc 1, 7344, .inr (.inl (fun j => σ.L 2153 i j)))
  | 2154 => .inl (G.tc 0, 7344, .inl (fun j => σ.I 2154 i j))
  | 2155 => .inl (G.tc 0, 7344, .inl (fun j => σ.I 2155 i j))
  | 2156 => .inl (G.tc 1, 29376, .inr (.inl (fun j => σ.L 2156 i j)))
  | 2157 => .inl (G.tc 0, 29376, .inl (fun j => σ.I 2157 i j))
  | 2158 => .inl (G.tc 1, 29376, .inr (.inl (fun j => σ.L 2158 i j)))
  | 2159 => .inl (G.tc 0, 29376, .inl (fun j => σ.I 2159 i j))
  | 2160 => .inl (G.tc 0, 7344, .inl (fun j => σ.I 2160 i j))
  | 2161 => .inl (G.tc 0, 7344, .inl (fun j => σ.I 2161 i j))
  | 2162 => .inl (G.tc 0, 7344, .inl (fun j => σ.I 2162 i j))
  | 2163 => .inl (G.tc 0, 7344, .inl (fun j => σ.I 2163 i j))
  | 2164 => .inl (G.tc 3, 7344, .inl (fun j => bI (σ.B 2164 i j)))
  | 2165 => .inl (G.tc 0, 7344, .inl (fun j => σ.I 2165 i j))
  | 2166 => .inl (G.tc 1, 7344, .inr (.inl (fun j => σ.L 2166 i j)))
  | 2167 => .inl (G.tc 0, 7344, .inl (fun j => σ.I 2167 i j))
  | 2168 => .inl (G.tc 0, 7344, .inl (fun j => σ.I 2168 i j))
  | 2169 => .inl (G.tc 0, 18, .inl (fun j => σ.I 2169 i j))
  | 2170 => .inl (G.tc 0, 30600, .inl (fun j => σ.I 2170 i j))
  | 2171 => .inl (G.tc 0, 30600, .inl (fun j => σ.I 2171 i j))
  | 2172 => .inl (G.tc 0, 30600, .inl (fun j => σ.I 2172 i j))
  | 2173 => .inl (G.tc 0, 30600, .inl (fun j => σ.I 2173 i j))
  | 2174 => .inl (G.tc 1, 30600, .inr (.inl (fun j => σ.L 2174 i j)))
  | 2175 => .inl (G.tc 1, 30600, .inr (.inl (fun j => σ.L 2175 i j)))
  | 2176 => .inl (G.tc 1, 30600, .inr (.inl (fun j => σ.L 2176 i j)))
  | 2177 => .inl (G.tc 0, 30600, .inl (fun j => σ.I 2177 i j))
  | 2178 => .inl (G.tc 0, 30600, .inl (fun j => σ.I 2178 i j))
  | 2179 => .inl (G.tc 0, 30600, .inl (fun j => σ.I 2179 i j))
  | 2180 => .inl (G.tc 0, 30600, .inl (fun j => σ.I 2180 i j))
  | 2181 => .inl (G.tc 0, 30600, .inl (fun j => σ.I 2181 i j))
  | 2182 => .inl (G.tc 0, 30600, .inl (fun j => σ.I 2182 i j))
  | 2183 => .inl (G.tc 1, 30600, .inr (.inl (fun j => σ.L 2183 i j)))
  | 2184 => .inl (G.tc 1, 30600, .inr (.inl (fun j => σ.L 2184 i j)))
  | 2185 => .inl (G.tc 0, 30600, .inl (fun j => σ.I 2185 i j))
  | 2186 => .inl (G.tc 1, 122400, .inr (.inl (fun j => σ.L 2186 i j)))
  | 2187 => .inl (G.tc 0, 30600, .inl (fun j => σ.I 2187 i j))
  | 2188 => .inl (G.tc 0, 30600, .inl (fun j => σ.I 2188 i j))
  | 2190 => .inl (G.tc 0, 5, .inl (fun j => σ.I 2190 i j))
  | 2193 => .inl (G.tc 0, 216, .inl (fun j => σ.I 2193 i j))
  | 2194 => .inl (G.tc 0, 216, .inl (fun j => σ.I 2194 i j))
  | 2196 => .inl (G.tc 0, 4000, .inl (fun j => σ.I 2196 i j))
  | 2197 => .inl (G.tc 0, 216, .inl (fun j => σ.I 2197 i j))
  | 2199 => .inl (G.tc 0, 216, .inl (fun j => σ.I 2199 i j))
  | 2200 => .inl (G.tc 0, 216, .inl (fun j => σ.I 2200 i j))
  | 2203 => .inl (G.tc 0, 432, .inl (fun j => σ.I 2203 i j))
  | 2205 => .inl (G.tc 0, 216, .inl (fun j => σ.I 2205 i j))
  | 2206 => .inl (G.tc 0, 216, .inl (fun j => σ.I 2206 i j))
  | 2207 => .inl (G.tc 0, 1704, .inl (fun j => σ.I 2207 i j))
  | 2212 => .inl (G.tc 1, 720, .inr (.inl (fun j => σ.L 2212 i j)))
  | 2213 => .inl (G.tc 1, 720, .inr (.inl (fun j => σ.L 2213 i j)))
  | 2215 => .inl (G.tc 0, 432, .inl (fun j => σ.I 2215 i j))
  | 2217 => .inl (G.tc 0, 216, .inl (fun j => σ.I 2217 i j))
  | 2218 => .inl (G.tc 0, 17, .inl (fun j => σ.I 2218 i j))
  | 2219 => .inl (G.tc 0, 30600, .inl (fun j => σ.I 2219 i j))
  | 2220 => .inl (G.tc 0, 30600, .inl (fun j => σ.I 2220 i j))
  | 2221 => .inl (G.tc 1, 30600, .inr (.inl (fun j => σ.L 2221 i j)))
  | 2222 => .inl (G.tc 1, 30600, .inr (.inl (fun j => σ.L 2222 i j)))
  | 2223 => .inl (G.tc 1, 30600, .inr (.inl (fun j => σ.L 2223 i j)))
  | 2224 => .inl (G.tc 0, 30600, .inl (fun j => σ.I 2224 i j))
  | 2225 => .inl (G.tc 1, 122400, .inr (.inl (fun j => σ.L 2225 i j)))
  | 2226 => .inl (G.tc 1, 30600, .inr (.inl (fun j => σ.L 2226 i j)))
  | 2227 => .inl (G.tc 0, 30600, .inl (fun j => σ.I 2227 i j))
  | 2230 => .inl (G.tc 0, 64, .inl (fun j => σ.I 2230 i j))
  | 2231 => .inl (G.tc 0, 216, .inl (fun j => σ.I 2231 i j))
  | 2232 => .inl (G.tc 0, 128, .inl (fun j => σ.I 2232 i j))
  | 2233 => .inl (G.tc 0, 128, .inl (fun j => σ.I 2233 i j))
  | 2235 => .inl (G.tc 0, 600, .inl (fun j => σ.I 2235 i j))
  | 2238 => .inl (G.tc 0, 216, .inl (fun j => σ.I 2238 i j))
  | 2241 => .inl (G.tc 0, 216, .inl (fun j => σ.I 2241 i j))
  | 2243 => .inl (G.tc 0, 216, .inl (fun j => σ.I 2243 i j))
  | 2244 => .inl (G.tc 0, 27000, .inl (fun j => σ.I 2244 i j))
  | 2246 => .inl (G.tc 0, 5, .inl (fun j => σ.I 2246 i j))
  | 2247 => .inl (G.tc 0, 5, .inl (fun j => σ.I 2247 i j))
  | 2248 => .inl (G.tc 0, 7344, .inl (fun j => σ.I 2248 i j))
  | 2249 => .inl (G.tc 0, 202, .inl (fun j => σ.I 2249 i j))
  | 2250 => .inl (G.tc 0, 202, .inl (fun j => σ.I 2250 i j))
  | 2252 => .inl (G.tc 0, 2001, .inl (fun j => σ.I 2252 i j))
  | 2254 => .inl (G.tc 0, 6240, .inl (fun j => σ.I 2254 i j))
  | 2256 => .inl (G.tc 0, 17280, .inl (fun j => σ.I 2256 i j))
  | 2257 => .inl (G.tc 0, 17280, .inl (fun j => σ.I 2257 i j))
  | 2258 => .inl (G.tc 0, 17280, .inl (fun j => σ.I 2258 i j))
  | 2259 => .inl (G.tc 0, 17280, .inl (fun j => σ.I 2259 i j))
  | 2260 => .inl (G.tc 0, 17280, .inl (fun j => σ.I 2260 i j))
  | 2268 => .inl (G.tc 0, 100, .inl (fun j => σ.I 2268 i j))
  | 2270 => .inl (G.tc 0, 216, .inl (fun j => σ.I 2270 i j))
  | 2272 => .inl (G.tc 0, 8000, .inl (fun j => σ.I 2272 i j))
  | 2274 => .inl (G.tc 0, 30000, .inl (fun j => σ.I 2274 i j))
  | 2276 => .inl (G.tc 0, 702, .inl (fun j => σ.I 2276 i j))
  | 2277 => .inl (G.tc 0, 702, .inl (fun j => σ.I 2277 i j))
  | 2278 => .inl (G.tc 0, 30000, .inl (fun j => σ.I 2278 i j))
  | 2279 => .inl (G.tc 0, 1800, .inl (fun j => σ.I 2279 i j))
  | 1999 => .inl (G.tc 4, 64, .inr (.inr (.inr (.inr (fun j => (σ.R 1999 i j).map (G.adr 1))))))
  | _ => .inl (G.tc 0, 0, .inl (fun _ => 0))
/-- how many there are -/
def cntT (fam : Nat) : Nat := match fam with
  | 0 => 1
  | 1 => 194
  | 2 => 22404
  | 3 => 3
  | 4 => 1
  | 5 => 1
  | 6 => 2
  | 7 => 16002
  | 8 => 2
  | 9 => 1
  | 10 => 16
  | 11 => 1
  | 1000 => 1
  | 1002 => 1
  | 1004 => 1
  | 1006 => 1
  | 1007 => 1
  | 1008 => 1
  | 1023 => 1
  | 1025 => 1
  | 1027 => 1
  | 1029 => 1
  | 1030 => 1
  | 1031 => 1
  | 1108 => 194
  | 1111 => 194
  | 1113 => 194
  | 1116 => 194
  | 1125 => 194
  | 1209 => 22404
  | 1210 => 22404
  | 1211 => 22404
  | 1302 => 3
  | 1304 => 3
  | 1306 => 3
  | 1308 => 3
  | 1309 => 3
  | 1311 => 3
  | 1312 => 3
  | 1501 => 1
  | 1503 => 1
  | 1504 => 1
  | 1509 => 1
  | 1510 => 1
  | 1511 => 1
  | 1512 => 1
  | 1513 => 1
  | 1514 => 1
  | 1606 => 2
  | 1607 => 2
  | 1608 => 2
  | 1609 => 2
  | 1610 => 2
  | 1611 => 2
  | 1612 => 2
  | 1615 => 2
  | 1617 => 2
  | 1801 => 2
  | 1802 => 2
  | 1806 => 2
  | 1902 => 1
  | 1903 => 1
  | 1904 => 1
  | 1905 => 1
  | 1906 => 1
  | 1908 => 1
  | 1910 => 1
  | 1915 => 1
  | 1917 => 1
  | 1918 => 1
  | 1919 => 1
  | 1920 => 1
  | 1922 => 1
  | 2001 => 16
  | 2003 => 16
  | 2004 => 16
  | 2006 => 16
  | 2008 => 16
  | 2010 => 16
  | 2012 => 16
  | 2100 => 1
  | 2102 => 1
  | 2104 => 1
  | 2105 => 1
  | 2106 => 1
  | 2107 => 1
  | 2108 => 1
  | 2109 => 1
  | 2111 => 1
  | 2112 => 1
  | 2113 => 1
  | 2114 => 1
  | 2115 => 1
  | 2116 => 1
  | 2117 => 1
  | 2123 => 1
  | 2124 => 1
  | 2125 => 1
  | 2126 => 1
  | 2127 => 1
  | 2128 => 1
  | 2129 => 1
  | 2130 => 1
  | 2131 => 1
  | 2132 => 1
  | 2133 => 1
  | 2134 => 1
  | 2135 => 1
  | 2136 => 1
  | 2137 => 1
  | 2138 => 1
  | 2139 => 1
  | 2140 => 1
  | 2141 => 1
  | 2142 => 1
  | 2143 => 1
  | 2144 => 1
  | 2145 => 1
  | 2146 => 1
  | 2147 => 1
  | 2148 => 1
  | 2149 => 1
  | 2150 => 1
  | 2151 => 1
  | 2152 => 1
  | 2153 => 1
  | 2154 => 1
  | 2155 => 1
  | 2156 => 1
  | 2157 => 1
  | 2158 => 1
  | 2159 => 1
  | 2160 => 1
  | 2161 => 1
  | 2162 => 1
  | 2163 => 1
  | 2164 => 1
  | 2165 => 1
  | 2166 => 1
  | 2167 => 1
  | 2168 => 1
  | 2169 => 1
  | 2170 => 1
  | 2171 => 1
  | 2172 => 1
  | 2173 => 1
  | 2174 => 1
  | 2175 => 1
  | 2176 => 1
  | 2177 => 1
  | 2178 => 1
  | 2179 => 1
  | 2180 => 1
  | 2181 => 1
  | 2182 => 1
  | 2183 => 1
  | 2184 => 1
  | 2185 => 1
  | 2186 => 1
  | 2187 => 1
  | 2188 => 1
  | 2190 => 1
  | 2193 => 1
  | 2194 => 1
  | 2196 => 1
  | 2197 => 1
  | 2199 => 1
  | 2200 => 1
  | 2203 => 1
  | 2205 => 1
  | 2206 => 1
  | 2207 => 1
  | 2212 => 1
  | 2213 => 1
  | 2215 => 1
  | 2217 => 1
  | 2218 => 1
  | 2219 => 1
  | 2220 => 1
  | 2221 => 1
  | 2222 => 1
  | 2223 => 1
  | 2224 => 1
  | 2225 => 1
  | 2226 => 1
  | 2227 => 1
  | 2230 => 1
  | 2231 => 1
  | 2232 => 1
  | 2233 => 1
  | 2235 => 1
  | 2238 => 1
  | 2241 => 1
  | 2243 => 1
  | 2244 => 1
  | 2246 => 1
  | 2247 => 1
  | 2248 => 1
  | 2249 => 1
  | 2250 => 1
  | 2252 => 1
  | 2254 => 1
  | 2256 => 1
  | 2257 => 1
  | 2258 => 1
  | 2259 => 1
  | 2260 => 1
  | 2268 => 1
  | 2270 => 1
  | 2272 => 1
  | 2274 => 1
  | 2276 => 1
  | 2277 => 1
  | 2278 => 1
  | 2279 => 1
  | 1999 => 26
  | _ => 0
def cnt (fam : Nat) : Nat := if fam < 2400 then cntT fam else 0
/-- the family that a column of references points to -/
def tgt (c : Nat) : Nat := match c with
  | 1021 => 2
  | 1126 => 10
  | 1222 => 1
  | 1302 => 1
  | 1304 => 1
  | 1306 => 1
  | 1308 => 1
  | 1311 => 1
  | 1312 => 1
  | 1502 => 10
  | 1602 => 10
  | 1603 => 1
  | 1604 => 2
  | 1607 => 2
  | 1608 => 1
  | 1615 => 2
  | 1617 => 1
  | 1701 => 1
  | 1804 => 2
  | 1805 => 2
  | 1806 => 1
  | 1905 => 1
  | 1917 => 2
  | 1999 => 1
  | _ => 0
