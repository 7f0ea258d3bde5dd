theorem zz_b : True := trivial
